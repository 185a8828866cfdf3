/-! WasteHouse$RoundColumns -/
set_option maxRecDepth 100000
def RX17 : String := "WasteHouse$RoundColumns"
def TX17 : u_T := fun k => match k with
  | 0 => ("WasteHouse$RoundColumns", "kilograms", "[I", true)
  | 1 => ("WasteHouse$RoundColumns", "seconds", "[I", true)
  | 2 => ("WasteHouse$RoundColumns", "bins", "I", false)
  | 3 => ("WasteHouse$RoundColumns", "wayTimes", "[I", true)
  | 4 => ("WasteHouse$RoundColumns", "wayCosts", "[I", true)
  | 5 => ("WasteHouse$RoundColumns", "load", "I", false)
  | 6 => ("WasteHouse$RoundColumns", "mostSeconds", "I", false)
  | 7 => ("WasteHouse$RoundColumns", "vehicles", "I", false)
  | 8 => ("WasteHouse$RoundColumns", "pairs", "[B", true)
  | 9 => ("WasteHouse$RoundColumns", "rows", "LWasteHouse$RoundColumns$Rows;", true)
  | 10 => ("WasteHouse$RoundColumns", "corner", "LWasteHouse$RoundColumns$Corner;", true)
  | 11 => ("WasteHouse$RoundColumns", "hasRun", "Z", false)
  | 12 => ("WasteHouse$RoundColumns", "labels", "I", false)
  | 13 => ("WasteHouse$RoundColumns", "labelSets", "[I", true)
  | 14 => ("WasteHouse$RoundColumns", "leadsOn", "[Z", true)
  | 15 => ("WasteHouse$RoundColumns", "columns", "I", false)
  | 16 => ("WasteHouse$RoundColumns", "sets", "[I", true)
  | 17 => ("WasteHouse$RoundColumns", "codes", "[I", true)
  | 18 => ("WasteHouse$RoundColumns", "costs", "[I", true)
  | 19 => ("WasteHouse$RoundColumns", "barred", "[Z", true)
  | 20 => ("WasteHouse$RoundColumns", "loads", "[I", true)
  | 21 => ("WasteHouse$RoundColumns", "cutSets", "[I", true)
  | 22 => ("WasteHouse$RoundColumns", "cuts", "I", false)
  | 23 => ("WasteHouse$RoundColumns", "loadThen", "I", false)
  | 24 => ("WasteHouse$RoundColumns", "vehiclesThen", "I", false)
  | 25 => ("WasteHouse$RoundColumns", "binsThen", "I", false)
  | 26 => ("WasteHouse$RoundColumns", "bound", "LWasteHouse$RoundColumns$Ratio;", true)
  | _ => ("WasteHouse$RoundColumns", "ratio", "LWasteHouse$RoundColumns$Ratio;", true)
def tyX17 : Nat → FieldType := fun k => match k with
  | 0 => .array .int
  | 1 => .array .int
  | 2 => .int
  | 3 => .array .int
  | 4 => .array .int
  | 5 => .int
  | 6 => .int
  | 7 => .int
  | 8 => .array .byte
  | 9 => .object "WasteHouse$RoundColumns$Rows"
  | 10 => .object "WasteHouse$RoundColumns$Corner"
  | 11 => .boolean
  | 12 => .int
  | 13 => .array .int
  | 14 => .array .boolean
  | 15 => .int
  | 16 => .array .int
  | 17 => .array .int
  | 18 => .array .int
  | 19 => .array .boolean
  | 20 => .array .int
  | 21 => .array .int
  | 22 => .int
  | 23 => .int
  | 24 => .int
  | 25 => .int
  | 26 => .object "WasteHouse$RoundColumns$Ratio"
  | _ => .object "WasteHouse$RoundColumns$Ratio"
abbrev wsX170 : List Cond := u_ws RX17 TX17 28
set_option maxRecDepth 100000 in
theorem nmX17 : ∀ a, a < 28 → ∀ b, b < 28 → a ≠ b → (TX17 a).2.1 ≠ (TX17 b).2.1 := by decide +kernel
set_option maxRecDepth 100000 in
theorem tyX17_ok : ∀ k, k < 28 → parseFieldDescriptor (TX17 k).2.2.1 = some (tyX17 k) := by decide +kernel
abbrev cX17_init : ByteArray := prog_36_method_1_code
def yX17_init : MethodName := ⟨RX17, "<init>", "()V"⟩
def dkwX17_init_7 : List UInt8 := [162, 0, 16, 42, 180, 0, 16, 27, 2, 79, 132, 1, 1, 167, 255, 240, 177]
abbrev dktX17_init_7 : List UInt8 := dkwX17_init_7 ++ []
def dkwX17_init_6 : List UInt8 := [183, 0, 67, 181, 0, 68, 42, 187, 0, 65, 89, 183, 0, 67, 181, 0, 72, 3, 60, 27, 16, 49]
abbrev dktX17_init_6 : List UInt8 := dkwX17_init_6 ++ dktX17_init_7
def dkwX17_init_5 : List UInt8 := [181, 0, 56, 42, 16, 63, 188, 10, 181, 0, 59, 42, 16, 63, 188, 10, 181, 0, 62, 42, 187, 0, 65, 89]
abbrev dktX17_init_5 : List UInt8 := dkwX17_init_5 ++ dktX17_init_6
def dkwX17_init_4 : List UInt8 := [181, 0, 47, 42, 16, 63, 188, 10, 181, 0, 50, 42, 16, 63, 188, 10, 181, 0, 53, 42, 16, 63, 188, 4]
abbrev dktX17_init_4 : List UInt8 := dkwX17_init_4 ++ dktX17_init_5
def dkwX17_init_3 : List UInt8 := [17, 0, 192, 188, 10, 181, 0, 40, 42, 17, 0, 192, 188, 4, 181, 0, 43, 42, 16, 63, 188, 10]
abbrev dktX17_init_3 : List UInt8 := dkwX17_init_3 ++ dktX17_init_4
def dkwX17_init_2 : List UInt8 := [187, 0, 26, 89, 183, 0, 28, 181, 0, 29, 42, 187, 0, 33, 89, 183, 0, 35, 181, 0, 36, 42]
abbrev dktX17_init_2 : List UInt8 := dkwX17_init_2 ++ dktX17_init_3
def dkwX17_init_1 : List UInt8 := [188, 10, 181, 0, 16, 42, 16, 49, 188, 10, 181, 0, 19, 42, 16, 36, 188, 8, 181, 0, 22, 42]
abbrev dktX17_init_1 : List UInt8 := dkwX17_init_1 ++ dktX17_init_2
def dkwX17_init_0 : List UInt8 := [42, 183, 0, 1, 42, 16, 6, 188, 10, 181, 0, 7, 42, 16, 6, 188, 10, 181, 0, 13, 42, 16, 49]
abbrev dktX17_init_0 : List UInt8 := dkwX17_init_0 ++ dktX17_init_1
theorem dksX17_init_0 : cX17_init.data.toList.drop 0 = dktX17_init_0 := by decide +kernel
theorem dksX17_init_1 : cX17_init.data.toList.drop 23 = dktX17_init_1 := dk_seg dksX17_init_0 23 rfl rfl
theorem dksX17_init_2 : cX17_init.data.toList.drop 45 = dktX17_init_2 := dk_seg dksX17_init_1 22 rfl rfl
theorem dksX17_init_3 : cX17_init.data.toList.drop 67 = dktX17_init_3 := dk_seg dksX17_init_2 22 rfl rfl
theorem dksX17_init_4 : cX17_init.data.toList.drop 89 = dktX17_init_4 := dk_seg dksX17_init_3 22 rfl rfl
theorem dksX17_init_5 : cX17_init.data.toList.drop 113 = dktX17_init_5 := dk_seg dksX17_init_4 24 rfl rfl
theorem dksX17_init_6 : cX17_init.data.toList.drop 137 = dktX17_init_6 := dk_seg dksX17_init_5 24 rfl rfl
theorem dksX17_init_7 : cX17_init.data.toList.drop 159 = dktX17_init_7 := dk_seg dksX17_init_6 22 rfl rfl
theorem dX17_init_0 : decode cX17_init 0 = .ok (.aload_n 0, 1) := dk_42 (dk_at dksX17_init_0 0 rfl rfl)
theorem dX17_init_1 : decode cX17_init 1 = .ok (.invokespecial 1, 3) := dk_183 0 1 (dk_at dksX17_init_0 1 rfl rfl)
theorem dX17_init_4 : decode cX17_init 4 = .ok (.aload_n 0, 1) := dk_42 (dk_at dksX17_init_0 4 rfl rfl)
theorem dX17_init_5 : decode cX17_init 5 = .ok (.bipush 6, 2) := dk_16 6 (dk_at dksX17_init_0 5 rfl rfl)
theorem dX17_init_7 : decode cX17_init 7 = .ok (.newarray .int, 2) := dk_188_10 (dk_at dksX17_init_0 7 rfl rfl)
theorem dX17_init_9 : decode cX17_init 9 = .ok (.putfield 7, 3) := dk_181 0 7 (dk_at dksX17_init_0 9 rfl rfl)
theorem dX17_init_12 : decode cX17_init 12 = .ok (.aload_n 0, 1) := dk_42 (dk_at dksX17_init_0 12 rfl rfl)
theorem dX17_init_13 : decode cX17_init 13 = .ok (.bipush 6, 2) := dk_16 6 (dk_at dksX17_init_0 13 rfl rfl)
theorem dX17_init_15 : decode cX17_init 15 = .ok (.newarray .int, 2) := dk_188_10 (dk_at dksX17_init_0 15 rfl rfl)
theorem dX17_init_17 : decode cX17_init 17 = .ok (.putfield 13, 3) := dk_181 0 13 (dk_at dksX17_init_0 17 rfl rfl)
theorem dX17_init_20 : decode cX17_init 20 = .ok (.aload_n 0, 1) := dk_42 (dk_at dksX17_init_0 20 rfl rfl)
theorem dX17_init_21 : decode cX17_init 21 = .ok (.bipush 49, 2) := dk_16 49 (dk_at dksX17_init_0 21 rfl rfl)
theorem dX17_init_23 : decode cX17_init 23 = .ok (.newarray .int, 2) := dk_188_10 (dk_at dksX17_init_1 0 rfl rfl)
theorem dX17_init_25 : decode cX17_init 25 = .ok (.putfield 16, 3) := dk_181 0 16 (dk_at dksX17_init_1 2 rfl rfl)
theorem dX17_init_28 : decode cX17_init 28 = .ok (.aload_n 0, 1) := dk_42 (dk_at dksX17_init_1 5 rfl rfl)
theorem dX17_init_29 : decode cX17_init 29 = .ok (.bipush 49, 2) := dk_16 49 (dk_at dksX17_init_1 6 rfl rfl)
theorem dX17_init_31 : decode cX17_init 31 = .ok (.newarray .int, 2) := dk_188_10 (dk_at dksX17_init_1 8 rfl rfl)
theorem dX17_init_33 : decode cX17_init 33 = .ok (.putfield 19, 3) := dk_181 0 19 (dk_at dksX17_init_1 10 rfl rfl)
theorem dX17_init_36 : decode cX17_init 36 = .ok (.aload_n 0, 1) := dk_42 (dk_at dksX17_init_1 13 rfl rfl)
theorem dX17_init_37 : decode cX17_init 37 = .ok (.bipush 36, 2) := dk_16 36 (dk_at dksX17_init_1 14 rfl rfl)
theorem dX17_init_39 : decode cX17_init 39 = .ok (.newarray .byte, 2) := dk_188_8 (dk_at dksX17_init_1 16 rfl rfl)
theorem dX17_init_41 : decode cX17_init 41 = .ok (.putfield 22, 3) := dk_181 0 22 (dk_at dksX17_init_1 18 rfl rfl)
theorem dX17_init_44 : decode cX17_init 44 = .ok (.aload_n 0, 1) := dk_42 (dk_at dksX17_init_1 21 rfl rfl)
theorem dX17_init_45 : decode cX17_init 45 = .ok (.new 26, 3) := dk_187 0 26 (dk_at dksX17_init_2 0 rfl rfl)
theorem dX17_init_48 : decode cX17_init 48 = .ok (.dup, 1) := dk_89 (dk_at dksX17_init_2 3 rfl rfl)
theorem dX17_init_49 : decode cX17_init 49 = .ok (.invokespecial 28, 3) := dk_183 0 28 (dk_at dksX17_init_2 4 rfl rfl)
theorem dX17_init_52 : decode cX17_init 52 = .ok (.putfield 29, 3) := dk_181 0 29 (dk_at dksX17_init_2 7 rfl rfl)
theorem dX17_init_55 : decode cX17_init 55 = .ok (.aload_n 0, 1) := dk_42 (dk_at dksX17_init_2 10 rfl rfl)
theorem dX17_init_56 : decode cX17_init 56 = .ok (.new 33, 3) := dk_187 0 33 (dk_at dksX17_init_2 11 rfl rfl)
theorem dX17_init_59 : decode cX17_init 59 = .ok (.dup, 1) := dk_89 (dk_at dksX17_init_2 14 rfl rfl)
theorem dX17_init_60 : decode cX17_init 60 = .ok (.invokespecial 35, 3) := dk_183 0 35 (dk_at dksX17_init_2 15 rfl rfl)
theorem dX17_init_63 : decode cX17_init 63 = .ok (.putfield 36, 3) := dk_181 0 36 (dk_at dksX17_init_2 18 rfl rfl)
theorem dX17_init_66 : decode cX17_init 66 = .ok (.aload_n 0, 1) := dk_42 (dk_at dksX17_init_2 21 rfl rfl)
theorem dX17_init_67 : decode cX17_init 67 = .ok (.sipush 192, 3) := dk_17 0 192 (dk_at dksX17_init_3 0 rfl rfl)
theorem dX17_init_70 : decode cX17_init 70 = .ok (.newarray .int, 2) := dk_188_10 (dk_at dksX17_init_3 3 rfl rfl)
theorem dX17_init_72 : decode cX17_init 72 = .ok (.putfield 40, 3) := dk_181 0 40 (dk_at dksX17_init_3 5 rfl rfl)
theorem dX17_init_75 : decode cX17_init 75 = .ok (.aload_n 0, 1) := dk_42 (dk_at dksX17_init_3 8 rfl rfl)
theorem dX17_init_76 : decode cX17_init 76 = .ok (.sipush 192, 3) := dk_17 0 192 (dk_at dksX17_init_3 9 rfl rfl)
theorem dX17_init_79 : decode cX17_init 79 = .ok (.newarray .boolean, 2) := dk_188_4 (dk_at dksX17_init_3 12 rfl rfl)
theorem dX17_init_81 : decode cX17_init 81 = .ok (.putfield 43, 3) := dk_181 0 43 (dk_at dksX17_init_3 14 rfl rfl)
theorem dX17_init_84 : decode cX17_init 84 = .ok (.aload_n 0, 1) := dk_42 (dk_at dksX17_init_3 17 rfl rfl)
theorem dX17_init_85 : decode cX17_init 85 = .ok (.bipush 63, 2) := dk_16 63 (dk_at dksX17_init_3 18 rfl rfl)
theorem dX17_init_87 : decode cX17_init 87 = .ok (.newarray .int, 2) := dk_188_10 (dk_at dksX17_init_3 20 rfl rfl)
theorem dX17_init_89 : decode cX17_init 89 = .ok (.putfield 47, 3) := dk_181 0 47 (dk_at dksX17_init_4 0 rfl rfl)
theorem dX17_init_92 : decode cX17_init 92 = .ok (.aload_n 0, 1) := dk_42 (dk_at dksX17_init_4 3 rfl rfl)
theorem dX17_init_93 : decode cX17_init 93 = .ok (.bipush 63, 2) := dk_16 63 (dk_at dksX17_init_4 4 rfl rfl)
theorem dX17_init_95 : decode cX17_init 95 = .ok (.newarray .int, 2) := dk_188_10 (dk_at dksX17_init_4 6 rfl rfl)
theorem dX17_init_97 : decode cX17_init 97 = .ok (.putfield 50, 3) := dk_181 0 50 (dk_at dksX17_init_4 8 rfl rfl)
theorem dX17_init_100 : decode cX17_init 100 = .ok (.aload_n 0, 1) := dk_42 (dk_at dksX17_init_4 11 rfl rfl)
theorem dX17_init_101 : decode cX17_init 101 = .ok (.bipush 63, 2) := dk_16 63 (dk_at dksX17_init_4 12 rfl rfl)
theorem dX17_init_103 : decode cX17_init 103 = .ok (.newarray .int, 2) := dk_188_10 (dk_at dksX17_init_4 14 rfl rfl)
theorem dX17_init_105 : decode cX17_init 105 = .ok (.putfield 53, 3) := dk_181 0 53 (dk_at dksX17_init_4 16 rfl rfl)
theorem dX17_init_108 : decode cX17_init 108 = .ok (.aload_n 0, 1) := dk_42 (dk_at dksX17_init_4 19 rfl rfl)
theorem dX17_init_109 : decode cX17_init 109 = .ok (.bipush 63, 2) := dk_16 63 (dk_at dksX17_init_4 20 rfl rfl)
theorem dX17_init_111 : decode cX17_init 111 = .ok (.newarray .boolean, 2) := dk_188_4 (dk_at dksX17_init_4 22 rfl rfl)
theorem dX17_init_113 : decode cX17_init 113 = .ok (.putfield 56, 3) := dk_181 0 56 (dk_at dksX17_init_5 0 rfl rfl)
theorem dX17_init_116 : decode cX17_init 116 = .ok (.aload_n 0, 1) := dk_42 (dk_at dksX17_init_5 3 rfl rfl)
theorem dX17_init_117 : decode cX17_init 117 = .ok (.bipush 63, 2) := dk_16 63 (dk_at dksX17_init_5 4 rfl rfl)
theorem dX17_init_119 : decode cX17_init 119 = .ok (.newarray .int, 2) := dk_188_10 (dk_at dksX17_init_5 6 rfl rfl)
theorem dX17_init_121 : decode cX17_init 121 = .ok (.putfield 59, 3) := dk_181 0 59 (dk_at dksX17_init_5 8 rfl rfl)
theorem dX17_init_124 : decode cX17_init 124 = .ok (.aload_n 0, 1) := dk_42 (dk_at dksX17_init_5 11 rfl rfl)
theorem dX17_init_125 : decode cX17_init 125 = .ok (.bipush 63, 2) := dk_16 63 (dk_at dksX17_init_5 12 rfl rfl)
theorem dX17_init_127 : decode cX17_init 127 = .ok (.newarray .int, 2) := dk_188_10 (dk_at dksX17_init_5 14 rfl rfl)
theorem dX17_init_129 : decode cX17_init 129 = .ok (.putfield 62, 3) := dk_181 0 62 (dk_at dksX17_init_5 16 rfl rfl)
theorem dX17_init_132 : decode cX17_init 132 = .ok (.aload_n 0, 1) := dk_42 (dk_at dksX17_init_5 19 rfl rfl)
theorem dX17_init_133 : decode cX17_init 133 = .ok (.new 65, 3) := dk_187 0 65 (dk_at dksX17_init_5 20 rfl rfl)
theorem dX17_init_136 : decode cX17_init 136 = .ok (.dup, 1) := dk_89 (dk_at dksX17_init_5 23 rfl rfl)
theorem dX17_init_137 : decode cX17_init 137 = .ok (.invokespecial 67, 3) := dk_183 0 67 (dk_at dksX17_init_6 0 rfl rfl)
theorem dX17_init_140 : decode cX17_init 140 = .ok (.putfield 68, 3) := dk_181 0 68 (dk_at dksX17_init_6 3 rfl rfl)
theorem dX17_init_143 : decode cX17_init 143 = .ok (.aload_n 0, 1) := dk_42 (dk_at dksX17_init_6 6 rfl rfl)
theorem dX17_init_144 : decode cX17_init 144 = .ok (.new 65, 3) := dk_187 0 65 (dk_at dksX17_init_6 7 rfl rfl)
theorem dX17_init_147 : decode cX17_init 147 = .ok (.dup, 1) := dk_89 (dk_at dksX17_init_6 10 rfl rfl)
theorem dX17_init_148 : decode cX17_init 148 = .ok (.invokespecial 67, 3) := dk_183 0 67 (dk_at dksX17_init_6 11 rfl rfl)
theorem dX17_init_151 : decode cX17_init 151 = .ok (.putfield 72, 3) := dk_181 0 72 (dk_at dksX17_init_6 14 rfl rfl)
theorem dX17_init_154 : decode cX17_init 154 = .ok (.iconst 0, 1) := dk_3 (dk_at dksX17_init_6 17 rfl rfl)
theorem dX17_init_155 : decode cX17_init 155 = .ok (.istore_n 1, 1) := dk_60 (dk_at dksX17_init_6 18 rfl rfl)
theorem dX17_init_156 : decode cX17_init 156 = .ok (.iload_n 1, 1) := dk_27 (dk_at dksX17_init_6 19 rfl rfl)
theorem dX17_init_157 : decode cX17_init 157 = .ok (.bipush 49, 2) := dk_16 49 (dk_at dksX17_init_6 20 rfl rfl)
theorem dX17_init_159 : decode cX17_init 159 = .ok (.if_icmp .ge 16, 3) := dk_162 0 16 (dk_at dksX17_init_7 0 rfl rfl)
theorem dX17_init_162 : decode cX17_init 162 = .ok (.aload_n 0, 1) := dk_42 (dk_at dksX17_init_7 3 rfl rfl)
theorem dX17_init_163 : decode cX17_init 163 = .ok (.getfield 16, 3) := dk_180 0 16 (dk_at dksX17_init_7 4 rfl rfl)
theorem dX17_init_166 : decode cX17_init 166 = .ok (.iload_n 1, 1) := dk_27 (dk_at dksX17_init_7 7 rfl rfl)
theorem dX17_init_167 : decode cX17_init 167 = .ok (.iconst (-1), 1) := dk_2 (dk_at dksX17_init_7 8 rfl rfl)
theorem dX17_init_168 : decode cX17_init 168 = .ok (.iastore, 1) := dk_79 (dk_at dksX17_init_7 9 rfl rfl)
theorem dX17_init_169 : decode cX17_init 169 = .ok (.iinc 1 1, 3) := dk_132 1 1 (dk_at dksX17_init_7 10 rfl rfl)
theorem dX17_init_172 : decode cX17_init 172 = .ok (.goto (-16), 3) := dk_167 255 240 (dk_at dksX17_init_7 13 rfl rfl)
theorem dX17_init_175 : decode cX17_init 175 = .ok (.return_, 1) := dk_177 (dk_at dksX17_init_7 16 rfl rfl)
abbrev cX17_isColumn : ByteArray := prog_36_method_22_code
def yX17_isColumn : MethodName := ⟨RX17, "isColumn", "(I)Z"⟩
def dkwX17_isColumn_1 : List UInt8 := [172]
abbrev dktX17_isColumn_1 : List UInt8 := dkwX17_isColumn_1 ++ []
def dkwX17_isColumn_0 : List UInt8 := [42, 180, 0, 156, 153, 0, 19, 27, 155, 0, 15, 27, 42, 180, 0, 163, 162, 0, 7, 4, 167, 0, 4, 3]
abbrev dktX17_isColumn_0 : List UInt8 := dkwX17_isColumn_0 ++ dktX17_isColumn_1
theorem dksX17_isColumn_0 : cX17_isColumn.data.toList.drop 0 = dktX17_isColumn_0 := by decide +kernel
theorem dksX17_isColumn_1 : cX17_isColumn.data.toList.drop 24 = dktX17_isColumn_1 := dk_seg dksX17_isColumn_0 24 rfl rfl
theorem dX17_isColumn_0 : decode cX17_isColumn 0 = .ok (.aload_n 0, 1) := dk_42 (dk_at dksX17_isColumn_0 0 rfl rfl)
theorem dX17_isColumn_1 : decode cX17_isColumn 1 = .ok (.getfield 156, 3) := dk_180 0 156 (dk_at dksX17_isColumn_0 1 rfl rfl)
theorem dX17_isColumn_4 : decode cX17_isColumn 4 = .ok (.ifCond .eq 19, 3) := dk_153 0 19 (dk_at dksX17_isColumn_0 4 rfl rfl)
theorem dX17_isColumn_7 : decode cX17_isColumn 7 = .ok (.iload_n 1, 1) := dk_27 (dk_at dksX17_isColumn_0 7 rfl rfl)
theorem dX17_isColumn_8 : decode cX17_isColumn 8 = .ok (.ifCond .lt 15, 3) := dk_155 0 15 (dk_at dksX17_isColumn_0 8 rfl rfl)
theorem dX17_isColumn_11 : decode cX17_isColumn 11 = .ok (.iload_n 1, 1) := dk_27 (dk_at dksX17_isColumn_0 11 rfl rfl)
theorem dX17_isColumn_12 : decode cX17_isColumn 12 = .ok (.aload_n 0, 1) := dk_42 (dk_at dksX17_isColumn_0 12 rfl rfl)
theorem dX17_isColumn_13 : decode cX17_isColumn 13 = .ok (.getfield 163, 3) := dk_180 0 163 (dk_at dksX17_isColumn_0 13 rfl rfl)
theorem dX17_isColumn_16 : decode cX17_isColumn 16 = .ok (.if_icmp .ge 7, 3) := dk_162 0 7 (dk_at dksX17_isColumn_0 16 rfl rfl)
theorem dX17_isColumn_19 : decode cX17_isColumn 19 = .ok (.iconst 1, 1) := dk_4 (dk_at dksX17_isColumn_0 19 rfl rfl)
theorem dX17_isColumn_20 : decode cX17_isColumn 20 = .ok (.goto 4, 3) := dk_167 0 4 (dk_at dksX17_isColumn_0 20 rfl rfl)
theorem dX17_isColumn_23 : decode cX17_isColumn 23 = .ok (.iconst 0, 1) := dk_3 (dk_at dksX17_isColumn_0 23 rfl rfl)
theorem dX17_isColumn_24 : decode cX17_isColumn 24 = .ok (.ireturn, 1) := dk_172 (dk_at dksX17_isColumn_1 0 rfl rfl)
abbrev cX17_bin : ByteArray := prog_36_method_4_code
def yX17_bin : MethodName := ⟨RX17, "bin", "(JI)I"⟩
def dkwX17_bin_2 : List UInt8 := [180, 0, 75, 29, 79, 42, 89, 180, 0, 75, 90, 4, 96, 181, 0, 75, 172]
abbrev dktX17_bin_2 : List UInt8 := dkwX17_bin_2 ++ []
def dkwX17_bin_1 : List UInt8 := [184, 0, 81, 154, 0, 5, 2, 172, 42, 180, 0, 7, 42, 180, 0, 75, 31, 136, 79, 42, 180, 0, 13, 42]
abbrev dktX17_bin_1 : List UInt8 := dkwX17_bin_1 ++ dktX17_bin_2
def dkwX17_bin_0 : List UInt8 := [42, 180, 0, 75, 16, 6, 159, 0, 24, 31, 20, 0, 79, 184, 0, 81, 153, 0, 14, 29, 133, 20, 0, 79]
abbrev dktX17_bin_0 : List UInt8 := dkwX17_bin_0 ++ dktX17_bin_1
theorem dksX17_bin_0 : cX17_bin.data.toList.drop 0 = dktX17_bin_0 := by decide +kernel
theorem dksX17_bin_1 : cX17_bin.data.toList.drop 24 = dktX17_bin_1 := dk_seg dksX17_bin_0 24 rfl rfl
theorem dksX17_bin_2 : cX17_bin.data.toList.drop 48 = dktX17_bin_2 := dk_seg dksX17_bin_1 24 rfl rfl
theorem dX17_bin_0 : decode cX17_bin 0 = .ok (.aload_n 0, 1) := dk_42 (dk_at dksX17_bin_0 0 rfl rfl)
theorem dX17_bin_1 : decode cX17_bin 1 = .ok (.getfield 75, 3) := dk_180 0 75 (dk_at dksX17_bin_0 1 rfl rfl)
theorem dX17_bin_4 : decode cX17_bin 4 = .ok (.bipush 6, 2) := dk_16 6 (dk_at dksX17_bin_0 4 rfl rfl)
theorem dX17_bin_6 : decode cX17_bin 6 = .ok (.if_icmp .eq 24, 3) := dk_159 0 24 (dk_at dksX17_bin_0 6 rfl rfl)
theorem dX17_bin_9 : decode cX17_bin 9 = .ok (.lload_n 1, 1) := dk_31 (dk_at dksX17_bin_0 9 rfl rfl)
theorem dX17_bin_10 : decode cX17_bin 10 = .ok (.ldc2_w 79, 3) := dk_20 0 79 (dk_at dksX17_bin_0 10 rfl rfl)
theorem dX17_bin_13 : decode cX17_bin 13 = .ok (.invokestatic 81, 3) := dk_184 0 81 (dk_at dksX17_bin_0 13 rfl rfl)
theorem dX17_bin_16 : decode cX17_bin 16 = .ok (.ifCond .eq 14, 3) := dk_153 0 14 (dk_at dksX17_bin_0 16 rfl rfl)
theorem dX17_bin_19 : decode cX17_bin 19 = .ok (.iload_n 3, 1) := dk_29 (dk_at dksX17_bin_0 19 rfl rfl)
theorem dX17_bin_20 : decode cX17_bin 20 = .ok (.i2l, 1) := dk_133 (dk_at dksX17_bin_0 20 rfl rfl)
theorem dX17_bin_21 : decode cX17_bin 21 = .ok (.ldc2_w 79, 3) := dk_20 0 79 (dk_at dksX17_bin_0 21 rfl rfl)
theorem dX17_bin_24 : decode cX17_bin 24 = .ok (.invokestatic 81, 3) := dk_184 0 81 (dk_at dksX17_bin_1 0 rfl rfl)
theorem dX17_bin_27 : decode cX17_bin 27 = .ok (.ifCond .ne 5, 3) := dk_154 0 5 (dk_at dksX17_bin_1 3 rfl rfl)
theorem dX17_bin_30 : decode cX17_bin 30 = .ok (.iconst (-1), 1) := dk_2 (dk_at dksX17_bin_1 6 rfl rfl)
theorem dX17_bin_31 : decode cX17_bin 31 = .ok (.ireturn, 1) := dk_172 (dk_at dksX17_bin_1 7 rfl rfl)
theorem dX17_bin_32 : decode cX17_bin 32 = .ok (.aload_n 0, 1) := dk_42 (dk_at dksX17_bin_1 8 rfl rfl)
theorem dX17_bin_33 : decode cX17_bin 33 = .ok (.getfield 7, 3) := dk_180 0 7 (dk_at dksX17_bin_1 9 rfl rfl)
theorem dX17_bin_36 : decode cX17_bin 36 = .ok (.aload_n 0, 1) := dk_42 (dk_at dksX17_bin_1 12 rfl rfl)
theorem dX17_bin_37 : decode cX17_bin 37 = .ok (.getfield 75, 3) := dk_180 0 75 (dk_at dksX17_bin_1 13 rfl rfl)
theorem dX17_bin_40 : decode cX17_bin 40 = .ok (.lload_n 1, 1) := dk_31 (dk_at dksX17_bin_1 16 rfl rfl)
theorem dX17_bin_41 : decode cX17_bin 41 = .ok (.l2i, 1) := dk_136 (dk_at dksX17_bin_1 17 rfl rfl)
theorem dX17_bin_42 : decode cX17_bin 42 = .ok (.iastore, 1) := dk_79 (dk_at dksX17_bin_1 18 rfl rfl)
theorem dX17_bin_43 : decode cX17_bin 43 = .ok (.aload_n 0, 1) := dk_42 (dk_at dksX17_bin_1 19 rfl rfl)
theorem dX17_bin_44 : decode cX17_bin 44 = .ok (.getfield 13, 3) := dk_180 0 13 (dk_at dksX17_bin_1 20 rfl rfl)
theorem dX17_bin_47 : decode cX17_bin 47 = .ok (.aload_n 0, 1) := dk_42 (dk_at dksX17_bin_1 23 rfl rfl)
theorem dX17_bin_48 : decode cX17_bin 48 = .ok (.getfield 75, 3) := dk_180 0 75 (dk_at dksX17_bin_2 0 rfl rfl)
theorem dX17_bin_51 : decode cX17_bin 51 = .ok (.iload_n 3, 1) := dk_29 (dk_at dksX17_bin_2 3 rfl rfl)
theorem dX17_bin_52 : decode cX17_bin 52 = .ok (.iastore, 1) := dk_79 (dk_at dksX17_bin_2 4 rfl rfl)
theorem dX17_bin_53 : decode cX17_bin 53 = .ok (.aload_n 0, 1) := dk_42 (dk_at dksX17_bin_2 5 rfl rfl)
theorem dX17_bin_54 : decode cX17_bin 54 = .ok (.dup, 1) := dk_89 (dk_at dksX17_bin_2 6 rfl rfl)
theorem dX17_bin_55 : decode cX17_bin 55 = .ok (.getfield 75, 3) := dk_180 0 75 (dk_at dksX17_bin_2 7 rfl rfl)
theorem dX17_bin_58 : decode cX17_bin 58 = .ok (.dup_x1, 1) := dk_90 (dk_at dksX17_bin_2 10 rfl rfl)
theorem dX17_bin_59 : decode cX17_bin 59 = .ok (.iconst 1, 1) := dk_4 (dk_at dksX17_bin_2 11 rfl rfl)
theorem dX17_bin_60 : decode cX17_bin 60 = .ok (.iadd, 1) := dk_96 (dk_at dksX17_bin_2 12 rfl rfl)
theorem dX17_bin_61 : decode cX17_bin 61 = .ok (.putfield 75, 3) := dk_181 0 75 (dk_at dksX17_bin_2 13 rfl rfl)
theorem dX17_bin_64 : decode cX17_bin 64 = .ok (.ireturn, 1) := dk_172 (dk_at dksX17_bin_2 16 rfl rfl)
abbrev cX17_isIn : ByteArray := prog_36_method_2_code
def yX17_isIn : MethodName := ⟨RX17, "isIn", "(JJ)Z"⟩
def dkwX17_isIn_0 : List UInt8 := [30, 9, 148, 155, 0, 13, 30, 32, 148, 157, 0, 7, 4, 167, 0, 4, 3, 172]
abbrev dktX17_isIn_0 : List UInt8 := dkwX17_isIn_0 ++ []
theorem dksX17_isIn_0 : cX17_isIn.data.toList.drop 0 = dktX17_isIn_0 := by decide +kernel
theorem dX17_isIn_0 : decode cX17_isIn 0 = .ok (.lload_n 0, 1) := dk_30 (dk_at dksX17_isIn_0 0 rfl rfl)
theorem dX17_isIn_1 : decode cX17_isIn 1 = .ok (.lconst 0, 1) := dk_9 (dk_at dksX17_isIn_0 1 rfl rfl)
theorem dX17_isIn_2 : decode cX17_isIn 2 = .ok (.lcmp, 1) := dk_148 (dk_at dksX17_isIn_0 2 rfl rfl)
theorem dX17_isIn_3 : decode cX17_isIn 3 = .ok (.ifCond .lt 13, 3) := dk_155 0 13 (dk_at dksX17_isIn_0 3 rfl rfl)
theorem dX17_isIn_6 : decode cX17_isIn 6 = .ok (.lload_n 0, 1) := dk_30 (dk_at dksX17_isIn_0 6 rfl rfl)
theorem dX17_isIn_7 : decode cX17_isIn 7 = .ok (.lload_n 2, 1) := dk_32 (dk_at dksX17_isIn_0 7 rfl rfl)
theorem dX17_isIn_8 : decode cX17_isIn 8 = .ok (.lcmp, 1) := dk_148 (dk_at dksX17_isIn_0 8 rfl rfl)
theorem dX17_isIn_9 : decode cX17_isIn 9 = .ok (.ifCond .gt 7, 3) := dk_157 0 7 (dk_at dksX17_isIn_0 9 rfl rfl)
theorem dX17_isIn_12 : decode cX17_isIn 12 = .ok (.iconst 1, 1) := dk_4 (dk_at dksX17_isIn_0 12 rfl rfl)
theorem dX17_isIn_13 : decode cX17_isIn 13 = .ok (.goto 4, 3) := dk_167 0 4 (dk_at dksX17_isIn_0 13 rfl rfl)
theorem dX17_isIn_16 : decode cX17_isIn 16 = .ok (.iconst 0, 1) := dk_3 (dk_at dksX17_isIn_0 16 rfl rfl)
theorem dX17_isIn_17 : decode cX17_isIn 17 = .ok (.ireturn, 1) := dk_172 (dk_at dksX17_isIn_0 17 rfl rfl)
abbrev cX17_way : ByteArray := prog_36_method_5_code
def yX17_way : MethodName := ⟨RX17, "way", "(IIIJ)Z"⟩
def dkwX17_way_3 : List UInt8 := [16, 7, 27, 104, 28, 96, 22, 4, 136, 79, 4, 172]
abbrev dktX17_way_3 : List UInt8 := dkwX17_way_3 ++ []
def dkwX17_way_2 : List UInt8 := [184, 0, 81, 154, 0, 5, 3, 172, 42, 180, 0, 16, 16, 7, 27, 104, 28, 96, 29, 79, 42, 180, 0, 19]
abbrev dktX17_way_2 : List UInt8 := dkwX17_way_2 ++ dktX17_way_3
def dkwX17_way_1 : List UInt8 := [153, 0, 30, 27, 28, 159, 0, 25, 29, 133, 20, 0, 79, 184, 0, 81, 153, 0, 14, 22, 4, 20, 0, 85]
abbrev dktX17_way_1 : List UInt8 := dkwX17_way_1 ++ dktX17_way_2
def dkwX17_way_0 : List UInt8 := [27, 133, 42, 180, 0, 75, 133, 184, 0, 81, 153, 0, 43, 28, 133, 42, 180, 0, 75, 133, 184, 0, 81]
abbrev dktX17_way_0 : List UInt8 := dkwX17_way_0 ++ dktX17_way_1
theorem dksX17_way_0 : cX17_way.data.toList.drop 0 = dktX17_way_0 := by decide +kernel
theorem dksX17_way_1 : cX17_way.data.toList.drop 23 = dktX17_way_1 := dk_seg dksX17_way_0 23 rfl rfl
theorem dksX17_way_2 : cX17_way.data.toList.drop 47 = dktX17_way_2 := dk_seg dksX17_way_1 24 rfl rfl
theorem dksX17_way_3 : cX17_way.data.toList.drop 71 = dktX17_way_3 := dk_seg dksX17_way_2 24 rfl rfl
theorem dX17_way_0 : decode cX17_way 0 = .ok (.iload_n 1, 1) := dk_27 (dk_at dksX17_way_0 0 rfl rfl)
theorem dX17_way_1 : decode cX17_way 1 = .ok (.i2l, 1) := dk_133 (dk_at dksX17_way_0 1 rfl rfl)
theorem dX17_way_2 : decode cX17_way 2 = .ok (.aload_n 0, 1) := dk_42 (dk_at dksX17_way_0 2 rfl rfl)
theorem dX17_way_3 : decode cX17_way 3 = .ok (.getfield 75, 3) := dk_180 0 75 (dk_at dksX17_way_0 3 rfl rfl)
theorem dX17_way_6 : decode cX17_way 6 = .ok (.i2l, 1) := dk_133 (dk_at dksX17_way_0 6 rfl rfl)
theorem dX17_way_7 : decode cX17_way 7 = .ok (.invokestatic 81, 3) := dk_184 0 81 (dk_at dksX17_way_0 7 rfl rfl)
theorem dX17_way_10 : decode cX17_way 10 = .ok (.ifCond .eq 43, 3) := dk_153 0 43 (dk_at dksX17_way_0 10 rfl rfl)
theorem dX17_way_13 : decode cX17_way 13 = .ok (.iload_n 2, 1) := dk_28 (dk_at dksX17_way_0 13 rfl rfl)
theorem dX17_way_14 : decode cX17_way 14 = .ok (.i2l, 1) := dk_133 (dk_at dksX17_way_0 14 rfl rfl)
theorem dX17_way_15 : decode cX17_way 15 = .ok (.aload_n 0, 1) := dk_42 (dk_at dksX17_way_0 15 rfl rfl)
theorem dX17_way_16 : decode cX17_way 16 = .ok (.getfield 75, 3) := dk_180 0 75 (dk_at dksX17_way_0 16 rfl rfl)
theorem dX17_way_19 : decode cX17_way 19 = .ok (.i2l, 1) := dk_133 (dk_at dksX17_way_0 19 rfl rfl)
theorem dX17_way_20 : decode cX17_way 20 = .ok (.invokestatic 81, 3) := dk_184 0 81 (dk_at dksX17_way_0 20 rfl rfl)
theorem dX17_way_23 : decode cX17_way 23 = .ok (.ifCond .eq 30, 3) := dk_153 0 30 (dk_at dksX17_way_1 0 rfl rfl)
theorem dX17_way_26 : decode cX17_way 26 = .ok (.iload_n 1, 1) := dk_27 (dk_at dksX17_way_1 3 rfl rfl)
theorem dX17_way_27 : decode cX17_way 27 = .ok (.iload_n 2, 1) := dk_28 (dk_at dksX17_way_1 4 rfl rfl)
theorem dX17_way_28 : decode cX17_way 28 = .ok (.if_icmp .eq 25, 3) := dk_159 0 25 (dk_at dksX17_way_1 5 rfl rfl)
theorem dX17_way_31 : decode cX17_way 31 = .ok (.iload_n 3, 1) := dk_29 (dk_at dksX17_way_1 8 rfl rfl)
theorem dX17_way_32 : decode cX17_way 32 = .ok (.i2l, 1) := dk_133 (dk_at dksX17_way_1 9 rfl rfl)
theorem dX17_way_33 : decode cX17_way 33 = .ok (.ldc2_w 79, 3) := dk_20 0 79 (dk_at dksX17_way_1 10 rfl rfl)
theorem dX17_way_36 : decode cX17_way 36 = .ok (.invokestatic 81, 3) := dk_184 0 81 (dk_at dksX17_way_1 13 rfl rfl)
theorem dX17_way_39 : decode cX17_way 39 = .ok (.ifCond .eq 14, 3) := dk_153 0 14 (dk_at dksX17_way_1 16 rfl rfl)
theorem dX17_way_42 : decode cX17_way 42 = .ok (.lload 4, 2) := dk_22 4 (dk_at dksX17_way_1 19 rfl rfl)
theorem dX17_way_44 : decode cX17_way 44 = .ok (.ldc2_w 85, 3) := dk_20 0 85 (dk_at dksX17_way_1 21 rfl rfl)
theorem dX17_way_47 : decode cX17_way 47 = .ok (.invokestatic 81, 3) := dk_184 0 81 (dk_at dksX17_way_2 0 rfl rfl)
theorem dX17_way_50 : decode cX17_way 50 = .ok (.ifCond .ne 5, 3) := dk_154 0 5 (dk_at dksX17_way_2 3 rfl rfl)
theorem dX17_way_53 : decode cX17_way 53 = .ok (.iconst 0, 1) := dk_3 (dk_at dksX17_way_2 6 rfl rfl)
theorem dX17_way_54 : decode cX17_way 54 = .ok (.ireturn, 1) := dk_172 (dk_at dksX17_way_2 7 rfl rfl)
theorem dX17_way_55 : decode cX17_way 55 = .ok (.aload_n 0, 1) := dk_42 (dk_at dksX17_way_2 8 rfl rfl)
theorem dX17_way_56 : decode cX17_way 56 = .ok (.getfield 16, 3) := dk_180 0 16 (dk_at dksX17_way_2 9 rfl rfl)
theorem dX17_way_59 : decode cX17_way 59 = .ok (.bipush 7, 2) := dk_16 7 (dk_at dksX17_way_2 12 rfl rfl)
theorem dX17_way_61 : decode cX17_way 61 = .ok (.iload_n 1, 1) := dk_27 (dk_at dksX17_way_2 14 rfl rfl)
theorem dX17_way_62 : decode cX17_way 62 = .ok (.imul, 1) := dk_104 (dk_at dksX17_way_2 15 rfl rfl)
theorem dX17_way_63 : decode cX17_way 63 = .ok (.iload_n 2, 1) := dk_28 (dk_at dksX17_way_2 16 rfl rfl)
theorem dX17_way_64 : decode cX17_way 64 = .ok (.iadd, 1) := dk_96 (dk_at dksX17_way_2 17 rfl rfl)
theorem dX17_way_65 : decode cX17_way 65 = .ok (.iload_n 3, 1) := dk_29 (dk_at dksX17_way_2 18 rfl rfl)
theorem dX17_way_66 : decode cX17_way 66 = .ok (.iastore, 1) := dk_79 (dk_at dksX17_way_2 19 rfl rfl)
theorem dX17_way_67 : decode cX17_way 67 = .ok (.aload_n 0, 1) := dk_42 (dk_at dksX17_way_2 20 rfl rfl)
theorem dX17_way_68 : decode cX17_way 68 = .ok (.getfield 19, 3) := dk_180 0 19 (dk_at dksX17_way_2 21 rfl rfl)
theorem dX17_way_71 : decode cX17_way 71 = .ok (.bipush 7, 2) := dk_16 7 (dk_at dksX17_way_3 0 rfl rfl)
theorem dX17_way_73 : decode cX17_way 73 = .ok (.iload_n 1, 1) := dk_27 (dk_at dksX17_way_3 2 rfl rfl)
theorem dX17_way_74 : decode cX17_way 74 = .ok (.imul, 1) := dk_104 (dk_at dksX17_way_3 3 rfl rfl)
theorem dX17_way_75 : decode cX17_way 75 = .ok (.iload_n 2, 1) := dk_28 (dk_at dksX17_way_3 4 rfl rfl)
theorem dX17_way_76 : decode cX17_way 76 = .ok (.iadd, 1) := dk_96 (dk_at dksX17_way_3 5 rfl rfl)
theorem dX17_way_77 : decode cX17_way 77 = .ok (.lload 4, 2) := dk_22 4 (dk_at dksX17_way_3 6 rfl rfl)
theorem dX17_way_79 : decode cX17_way 79 = .ok (.l2i, 1) := dk_136 (dk_at dksX17_way_3 8 rfl rfl)
theorem dX17_way_80 : decode cX17_way 80 = .ok (.iastore, 1) := dk_79 (dk_at dksX17_way_3 9 rfl rfl)
theorem dX17_way_81 : decode cX17_way 81 = .ok (.iconst 1, 1) := dk_4 (dk_at dksX17_way_3 10 rfl rfl)
theorem dX17_way_82 : decode cX17_way 82 = .ok (.ireturn, 1) := dk_172 (dk_at dksX17_way_3 11 rfl rfl)
abbrev cX17_vehicle : ByteArray := prog_36_method_6_code
def yX17_vehicle : MethodName := ⟨RX17, "vehicle", "(JII)Z"⟩
def dkwX17_vehicle_2 : List UInt8 := [21, 4, 181, 0, 99, 4, 172]
abbrev dktX17_vehicle_2 : List UInt8 := dkwX17_vehicle_2 ++ []
def dkwX17_vehicle_1 : List UInt8 := [20, 0, 91, 184, 0, 81, 154, 0, 5, 3, 172, 42, 31, 136, 181, 0, 93, 42, 29, 181, 0, 96, 42]
abbrev dktX17_vehicle_1 : List UInt8 := dkwX17_vehicle_1 ++ dktX17_vehicle_2
def dkwX17_vehicle_0 : List UInt8 := [31, 20, 0, 87, 184, 0, 81, 153, 0, 26, 29, 133, 20, 0, 89, 184, 0, 81, 153, 0, 15, 21, 4, 133]
abbrev dktX17_vehicle_0 : List UInt8 := dkwX17_vehicle_0 ++ dktX17_vehicle_1
theorem dksX17_vehicle_0 : cX17_vehicle.data.toList.drop 0 = dktX17_vehicle_0 := by decide +kernel
theorem dksX17_vehicle_1 : cX17_vehicle.data.toList.drop 24 = dktX17_vehicle_1 := dk_seg dksX17_vehicle_0 24 rfl rfl
theorem dksX17_vehicle_2 : cX17_vehicle.data.toList.drop 47 = dktX17_vehicle_2 := dk_seg dksX17_vehicle_1 23 rfl rfl
theorem dX17_vehicle_0 : decode cX17_vehicle 0 = .ok (.lload_n 1, 1) := dk_31 (dk_at dksX17_vehicle_0 0 rfl rfl)
theorem dX17_vehicle_1 : decode cX17_vehicle 1 = .ok (.ldc2_w 87, 3) := dk_20 0 87 (dk_at dksX17_vehicle_0 1 rfl rfl)
theorem dX17_vehicle_4 : decode cX17_vehicle 4 = .ok (.invokestatic 81, 3) := dk_184 0 81 (dk_at dksX17_vehicle_0 4 rfl rfl)
theorem dX17_vehicle_7 : decode cX17_vehicle 7 = .ok (.ifCond .eq 26, 3) := dk_153 0 26 (dk_at dksX17_vehicle_0 7 rfl rfl)
theorem dX17_vehicle_10 : decode cX17_vehicle 10 = .ok (.iload_n 3, 1) := dk_29 (dk_at dksX17_vehicle_0 10 rfl rfl)
theorem dX17_vehicle_11 : decode cX17_vehicle 11 = .ok (.i2l, 1) := dk_133 (dk_at dksX17_vehicle_0 11 rfl rfl)
theorem dX17_vehicle_12 : decode cX17_vehicle 12 = .ok (.ldc2_w 89, 3) := dk_20 0 89 (dk_at dksX17_vehicle_0 12 rfl rfl)
theorem dX17_vehicle_15 : decode cX17_vehicle 15 = .ok (.invokestatic 81, 3) := dk_184 0 81 (dk_at dksX17_vehicle_0 15 rfl rfl)
theorem dX17_vehicle_18 : decode cX17_vehicle 18 = .ok (.ifCond .eq 15, 3) := dk_153 0 15 (dk_at dksX17_vehicle_0 18 rfl rfl)
theorem dX17_vehicle_21 : decode cX17_vehicle 21 = .ok (.iload 4, 2) := dk_21 4 (dk_at dksX17_vehicle_0 21 rfl rfl)
theorem dX17_vehicle_23 : decode cX17_vehicle 23 = .ok (.i2l, 1) := dk_133 (dk_at dksX17_vehicle_0 23 rfl rfl)
theorem dX17_vehicle_24 : decode cX17_vehicle 24 = .ok (.ldc2_w 91, 3) := dk_20 0 91 (dk_at dksX17_vehicle_1 0 rfl rfl)
theorem dX17_vehicle_27 : decode cX17_vehicle 27 = .ok (.invokestatic 81, 3) := dk_184 0 81 (dk_at dksX17_vehicle_1 3 rfl rfl)
theorem dX17_vehicle_30 : decode cX17_vehicle 30 = .ok (.ifCond .ne 5, 3) := dk_154 0 5 (dk_at dksX17_vehicle_1 6 rfl rfl)
theorem dX17_vehicle_33 : decode cX17_vehicle 33 = .ok (.iconst 0, 1) := dk_3 (dk_at dksX17_vehicle_1 9 rfl rfl)
theorem dX17_vehicle_34 : decode cX17_vehicle 34 = .ok (.ireturn, 1) := dk_172 (dk_at dksX17_vehicle_1 10 rfl rfl)
theorem dX17_vehicle_35 : decode cX17_vehicle 35 = .ok (.aload_n 0, 1) := dk_42 (dk_at dksX17_vehicle_1 11 rfl rfl)
theorem dX17_vehicle_36 : decode cX17_vehicle 36 = .ok (.lload_n 1, 1) := dk_31 (dk_at dksX17_vehicle_1 12 rfl rfl)
theorem dX17_vehicle_37 : decode cX17_vehicle 37 = .ok (.l2i, 1) := dk_136 (dk_at dksX17_vehicle_1 13 rfl rfl)
theorem dX17_vehicle_38 : decode cX17_vehicle 38 = .ok (.putfield 93, 3) := dk_181 0 93 (dk_at dksX17_vehicle_1 14 rfl rfl)
theorem dX17_vehicle_41 : decode cX17_vehicle 41 = .ok (.aload_n 0, 1) := dk_42 (dk_at dksX17_vehicle_1 17 rfl rfl)
theorem dX17_vehicle_42 : decode cX17_vehicle 42 = .ok (.iload_n 3, 1) := dk_29 (dk_at dksX17_vehicle_1 18 rfl rfl)
theorem dX17_vehicle_43 : decode cX17_vehicle 43 = .ok (.putfield 96, 3) := dk_181 0 96 (dk_at dksX17_vehicle_1 19 rfl rfl)
theorem dX17_vehicle_46 : decode cX17_vehicle 46 = .ok (.aload_n 0, 1) := dk_42 (dk_at dksX17_vehicle_1 22 rfl rfl)
theorem dX17_vehicle_47 : decode cX17_vehicle 47 = .ok (.iload 4, 2) := dk_21 4 (dk_at dksX17_vehicle_2 0 rfl rfl)
theorem dX17_vehicle_49 : decode cX17_vehicle 49 = .ok (.putfield 99, 3) := dk_181 0 99 (dk_at dksX17_vehicle_2 2 rfl rfl)
theorem dX17_vehicle_52 : decode cX17_vehicle 52 = .ok (.iconst 1, 1) := dk_4 (dk_at dksX17_vehicle_2 5 rfl rfl)
theorem dX17_vehicle_53 : decode cX17_vehicle 53 = .ok (.ireturn, 1) := dk_172 (dk_at dksX17_vehicle_2 6 rfl rfl)
abbrev cX17_branch : ByteArray := prog_36_method_7_code
def yX17_branch : MethodName := ⟨RX17, "branch", "(IIZ)Z"⟩
def dkwX17_branch_2 : List UInt8 := [167, 0, 4, 5, 145, 84, 4, 172]
abbrev dktX17_branch_2 : List UInt8 := dkwX17_branch_2 ++ []
def dkwX17_branch_1 : List UInt8 := [180, 0, 22, 16, 6, 27, 28, 184, 0, 106, 104, 27, 28, 184, 0, 112, 96, 29, 153, 0, 7, 4]
abbrev dktX17_branch_1 : List UInt8 := dkwX17_branch_1 ++ dktX17_branch_2
def dkwX17_branch_0 : List UInt8 := [42, 27, 182, 0, 102, 153, 0, 16, 42, 28, 182, 0, 102, 153, 0, 8, 27, 28, 160, 0, 5, 3, 172, 42]
abbrev dktX17_branch_0 : List UInt8 := dkwX17_branch_0 ++ dktX17_branch_1
theorem dksX17_branch_0 : cX17_branch.data.toList.drop 0 = dktX17_branch_0 := by decide +kernel
theorem dksX17_branch_1 : cX17_branch.data.toList.drop 24 = dktX17_branch_1 := dk_seg dksX17_branch_0 24 rfl rfl
theorem dksX17_branch_2 : cX17_branch.data.toList.drop 46 = dktX17_branch_2 := dk_seg dksX17_branch_1 22 rfl rfl
theorem dX17_branch_0 : decode cX17_branch 0 = .ok (.aload_n 0, 1) := dk_42 (dk_at dksX17_branch_0 0 rfl rfl)
theorem dX17_branch_1 : decode cX17_branch 1 = .ok (.iload_n 1, 1) := dk_27 (dk_at dksX17_branch_0 1 rfl rfl)
theorem dX17_branch_2 : decode cX17_branch 2 = .ok (.invokevirtual 102, 3) := dk_182 0 102 (dk_at dksX17_branch_0 2 rfl rfl)
theorem dX17_branch_5 : decode cX17_branch 5 = .ok (.ifCond .eq 16, 3) := dk_153 0 16 (dk_at dksX17_branch_0 5 rfl rfl)
theorem dX17_branch_8 : decode cX17_branch 8 = .ok (.aload_n 0, 1) := dk_42 (dk_at dksX17_branch_0 8 rfl rfl)
theorem dX17_branch_9 : decode cX17_branch 9 = .ok (.iload_n 2, 1) := dk_28 (dk_at dksX17_branch_0 9 rfl rfl)
theorem dX17_branch_10 : decode cX17_branch 10 = .ok (.invokevirtual 102, 3) := dk_182 0 102 (dk_at dksX17_branch_0 10 rfl rfl)
theorem dX17_branch_13 : decode cX17_branch 13 = .ok (.ifCond .eq 8, 3) := dk_153 0 8 (dk_at dksX17_branch_0 13 rfl rfl)
theorem dX17_branch_16 : decode cX17_branch 16 = .ok (.iload_n 1, 1) := dk_27 (dk_at dksX17_branch_0 16 rfl rfl)
theorem dX17_branch_17 : decode cX17_branch 17 = .ok (.iload_n 2, 1) := dk_28 (dk_at dksX17_branch_0 17 rfl rfl)
theorem dX17_branch_18 : decode cX17_branch 18 = .ok (.if_icmp .ne 5, 3) := dk_160 0 5 (dk_at dksX17_branch_0 18 rfl rfl)
theorem dX17_branch_21 : decode cX17_branch 21 = .ok (.iconst 0, 1) := dk_3 (dk_at dksX17_branch_0 21 rfl rfl)
theorem dX17_branch_22 : decode cX17_branch 22 = .ok (.ireturn, 1) := dk_172 (dk_at dksX17_branch_0 22 rfl rfl)
theorem dX17_branch_23 : decode cX17_branch 23 = .ok (.aload_n 0, 1) := dk_42 (dk_at dksX17_branch_0 23 rfl rfl)
theorem dX17_branch_24 : decode cX17_branch 24 = .ok (.getfield 22, 3) := dk_180 0 22 (dk_at dksX17_branch_1 0 rfl rfl)
theorem dX17_branch_27 : decode cX17_branch 27 = .ok (.bipush 6, 2) := dk_16 6 (dk_at dksX17_branch_1 3 rfl rfl)
theorem dX17_branch_29 : decode cX17_branch 29 = .ok (.iload_n 1, 1) := dk_27 (dk_at dksX17_branch_1 5 rfl rfl)
theorem dX17_branch_30 : decode cX17_branch 30 = .ok (.iload_n 2, 1) := dk_28 (dk_at dksX17_branch_1 6 rfl rfl)
theorem dX17_branch_31 : decode cX17_branch 31 = .ok (.invokestatic 106, 3) := dk_184 0 106 (dk_at dksX17_branch_1 7 rfl rfl)
theorem dX17_branch_34 : decode cX17_branch 34 = .ok (.imul, 1) := dk_104 (dk_at dksX17_branch_1 10 rfl rfl)
theorem dX17_branch_35 : decode cX17_branch 35 = .ok (.iload_n 1, 1) := dk_27 (dk_at dksX17_branch_1 11 rfl rfl)
theorem dX17_branch_36 : decode cX17_branch 36 = .ok (.iload_n 2, 1) := dk_28 (dk_at dksX17_branch_1 12 rfl rfl)
theorem dX17_branch_37 : decode cX17_branch 37 = .ok (.invokestatic 112, 3) := dk_184 0 112 (dk_at dksX17_branch_1 13 rfl rfl)
theorem dX17_branch_40 : decode cX17_branch 40 = .ok (.iadd, 1) := dk_96 (dk_at dksX17_branch_1 16 rfl rfl)
theorem dX17_branch_41 : decode cX17_branch 41 = .ok (.iload_n 3, 1) := dk_29 (dk_at dksX17_branch_1 17 rfl rfl)
theorem dX17_branch_42 : decode cX17_branch 42 = .ok (.ifCond .eq 7, 3) := dk_153 0 7 (dk_at dksX17_branch_1 18 rfl rfl)
theorem dX17_branch_45 : decode cX17_branch 45 = .ok (.iconst 1, 1) := dk_4 (dk_at dksX17_branch_1 21 rfl rfl)
theorem dX17_branch_46 : decode cX17_branch 46 = .ok (.goto 4, 3) := dk_167 0 4 (dk_at dksX17_branch_2 0 rfl rfl)
theorem dX17_branch_49 : decode cX17_branch 49 = .ok (.iconst 2, 1) := dk_5 (dk_at dksX17_branch_2 3 rfl rfl)
theorem dX17_branch_50 : decode cX17_branch 50 = .ok (.i2b, 1) := dk_145 (dk_at dksX17_branch_2 4 rfl rfl)
theorem dX17_branch_51 : decode cX17_branch 51 = .ok (.bastore, 1) := dk_84 (dk_at dksX17_branch_2 5 rfl rfl)
theorem dX17_branch_52 : decode cX17_branch 52 = .ok (.iconst 1, 1) := dk_4 (dk_at dksX17_branch_2 6 rfl rfl)
theorem dX17_branch_53 : decode cX17_branch 53 = .ok (.ireturn, 1) := dk_172 (dk_at dksX17_branch_2 7 rfl rfl)
abbrev cX17_isBin : ByteArray := prog_36_method_3_code
def yX17_isBin : MethodName := ⟨RX17, "isBin", "(I)Z"⟩
def dkwX17_isBin_0 : List UInt8 := [27, 155, 0, 15, 27, 42, 180, 0, 75, 162, 0, 7, 4, 167, 0, 4, 3, 172]
abbrev dktX17_isBin_0 : List UInt8 := dkwX17_isBin_0 ++ []
theorem dksX17_isBin_0 : cX17_isBin.data.toList.drop 0 = dktX17_isBin_0 := by decide +kernel
theorem dX17_isBin_0 : decode cX17_isBin 0 = .ok (.iload_n 1, 1) := dk_27 (dk_at dksX17_isBin_0 0 rfl rfl)
theorem dX17_isBin_1 : decode cX17_isBin 1 = .ok (.ifCond .lt 15, 3) := dk_155 0 15 (dk_at dksX17_isBin_0 1 rfl rfl)
theorem dX17_isBin_4 : decode cX17_isBin 4 = .ok (.iload_n 1, 1) := dk_27 (dk_at dksX17_isBin_0 4 rfl rfl)
theorem dX17_isBin_5 : decode cX17_isBin 5 = .ok (.aload_n 0, 1) := dk_42 (dk_at dksX17_isBin_0 5 rfl rfl)
theorem dX17_isBin_6 : decode cX17_isBin 6 = .ok (.getfield 75, 3) := dk_180 0 75 (dk_at dksX17_isBin_0 6 rfl rfl)
theorem dX17_isBin_9 : decode cX17_isBin 9 = .ok (.if_icmp .ge 7, 3) := dk_162 0 7 (dk_at dksX17_isBin_0 9 rfl rfl)
theorem dX17_isBin_12 : decode cX17_isBin 12 = .ok (.iconst 1, 1) := dk_4 (dk_at dksX17_isBin_0 12 rfl rfl)
theorem dX17_isBin_13 : decode cX17_isBin 13 = .ok (.goto 4, 3) := dk_167 0 4 (dk_at dksX17_isBin_0 13 rfl rfl)
theorem dX17_isBin_16 : decode cX17_isBin 16 = .ok (.iconst 0, 1) := dk_3 (dk_at dksX17_isBin_0 16 rfl rfl)
theorem dX17_isBin_17 : decode cX17_isBin 17 = .ok (.ireturn, 1) := dk_172 (dk_at dksX17_isBin_0 17 rfl rfl)
abbrev cX17_clear : ByteArray := prog_36_method_8_code
def yX17_clear : MethodName := ⟨RX17, "clear", "()V"⟩
def dkwX17_clear_0 : List UInt8 := [3, 60, 27, 16, 36, 162, 0, 16, 42, 180, 0, 22, 27, 3, 84, 132, 1, 1, 167, 255, 240, 177]
abbrev dktX17_clear_0 : List UInt8 := dkwX17_clear_0 ++ []
theorem dksX17_clear_0 : cX17_clear.data.toList.drop 0 = dktX17_clear_0 := by decide +kernel
theorem dX17_clear_0 : decode cX17_clear 0 = .ok (.iconst 0, 1) := dk_3 (dk_at dksX17_clear_0 0 rfl rfl)
theorem dX17_clear_1 : decode cX17_clear 1 = .ok (.istore_n 1, 1) := dk_60 (dk_at dksX17_clear_0 1 rfl rfl)
theorem dX17_clear_2 : decode cX17_clear 2 = .ok (.iload_n 1, 1) := dk_27 (dk_at dksX17_clear_0 2 rfl rfl)
theorem dX17_clear_3 : decode cX17_clear 3 = .ok (.bipush 36, 2) := dk_16 36 (dk_at dksX17_clear_0 3 rfl rfl)
theorem dX17_clear_5 : decode cX17_clear 5 = .ok (.if_icmp .ge 16, 3) := dk_162 0 16 (dk_at dksX17_clear_0 5 rfl rfl)
theorem dX17_clear_8 : decode cX17_clear 8 = .ok (.aload_n 0, 1) := dk_42 (dk_at dksX17_clear_0 8 rfl rfl)
theorem dX17_clear_9 : decode cX17_clear 9 = .ok (.getfield 22, 3) := dk_180 0 22 (dk_at dksX17_clear_0 9 rfl rfl)
theorem dX17_clear_12 : decode cX17_clear 12 = .ok (.iload_n 1, 1) := dk_27 (dk_at dksX17_clear_0 12 rfl rfl)
theorem dX17_clear_13 : decode cX17_clear 13 = .ok (.iconst 0, 1) := dk_3 (dk_at dksX17_clear_0 13 rfl rfl)
theorem dX17_clear_14 : decode cX17_clear 14 = .ok (.bastore, 1) := dk_84 (dk_at dksX17_clear_0 14 rfl rfl)
theorem dX17_clear_15 : decode cX17_clear 15 = .ok (.iinc 1 1, 3) := dk_132 1 1 (dk_at dksX17_clear_0 15 rfl rfl)
theorem dX17_clear_18 : decode cX17_clear 18 = .ok (.goto (-16), 3) := dk_167 255 240 (dk_at dksX17_clear_0 18 rfl rfl)
theorem dX17_clear_21 : decode cX17_clear 21 = .ok (.return_, 1) := dk_177 (dk_at dksX17_clear_0 21 rfl rfl)
abbrev cX17_run : ByteArray := prog_36_method_13_code
def yX17_run : MethodName := ⟨RX17, "run", "(I)I"⟩
def dkwX17_run_4 : List UInt8 := [182, 0, 182, 42, 180, 0, 68, 182, 0, 186, 153, 0, 7, 3, 167, 0, 4, 4, 172]
abbrev dktX17_run_4 : List UInt8 := dkwX17_run_4 ++ []
def dkwX17_run_3 : List UInt8 := [162, 0, 14, 42, 29, 182, 0, 175, 132, 3, 1, 167, 255, 238, 42, 182, 0, 179, 42, 2, 42, 180, 0, 68]
abbrev dktX17_run_3 : List UInt8 := dkwX17_run_3 ++ dktX17_run_4
def dkwX17_run_2 : List UInt8 := [180, 0, 99, 181, 0, 169, 42, 42, 180, 0, 75, 181, 0, 172, 4, 62, 29, 4, 42, 180, 0, 75, 120]
abbrev dktX17_run_2 : List UInt8 := dkwX17_run_2 ++ dktX17_run_3
def dkwX17_run_1 : List UInt8 := [181, 0, 156, 42, 3, 181, 0, 160, 42, 3, 181, 0, 163, 42, 42, 180, 0, 93, 181, 0, 166, 42, 42]
abbrev dktX17_run_1 : List UInt8 := dkwX17_run_1 ++ dktX17_run_2
def dkwX17_run_0 : List UInt8 := [42, 182, 0, 145, 61, 28, 27, 164, 0, 13, 187, 0, 149, 89, 18, 151, 183, 0, 153, 191, 42, 4]
abbrev dktX17_run_0 : List UInt8 := dkwX17_run_0 ++ dktX17_run_1
theorem dksX17_run_0 : cX17_run.data.toList.drop 0 = dktX17_run_0 := by decide +kernel
theorem dksX17_run_1 : cX17_run.data.toList.drop 22 = dktX17_run_1 := dk_seg dksX17_run_0 22 rfl rfl
theorem dksX17_run_2 : cX17_run.data.toList.drop 45 = dktX17_run_2 := dk_seg dksX17_run_1 23 rfl rfl
theorem dksX17_run_3 : cX17_run.data.toList.drop 68 = dktX17_run_3 := dk_seg dksX17_run_2 23 rfl rfl
theorem dksX17_run_4 : cX17_run.data.toList.drop 92 = dktX17_run_4 := dk_seg dksX17_run_3 24 rfl rfl
theorem dX17_run_0 : decode cX17_run 0 = .ok (.aload_n 0, 1) := dk_42 (dk_at dksX17_run_0 0 rfl rfl)
theorem dX17_run_1 : decode cX17_run 1 = .ok (.invokevirtual 145, 3) := dk_182 0 145 (dk_at dksX17_run_0 1 rfl rfl)
theorem dX17_run_4 : decode cX17_run 4 = .ok (.istore_n 2, 1) := dk_61 (dk_at dksX17_run_0 4 rfl rfl)
theorem dX17_run_5 : decode cX17_run 5 = .ok (.iload_n 2, 1) := dk_28 (dk_at dksX17_run_0 5 rfl rfl)
theorem dX17_run_6 : decode cX17_run 6 = .ok (.iload_n 1, 1) := dk_27 (dk_at dksX17_run_0 6 rfl rfl)
theorem dX17_run_7 : decode cX17_run 7 = .ok (.if_icmp .le 13, 3) := dk_164 0 13 (dk_at dksX17_run_0 7 rfl rfl)
theorem dX17_run_10 : decode cX17_run 10 = .ok (.new 149, 3) := dk_187 0 149 (dk_at dksX17_run_0 10 rfl rfl)
theorem dX17_run_13 : decode cX17_run 13 = .ok (.dup, 1) := dk_89 (dk_at dksX17_run_0 13 rfl rfl)
theorem dX17_run_14 : decode cX17_run 14 = .ok (.ldc 151, 2) := dk_18 151 (dk_at dksX17_run_0 14 rfl rfl)
theorem dX17_run_16 : decode cX17_run 16 = .ok (.invokespecial 153, 3) := dk_183 0 153 (dk_at dksX17_run_0 16 rfl rfl)
theorem dX17_run_19 : decode cX17_run 19 = .ok (.athrow, 1) := dk_191 (dk_at dksX17_run_0 19 rfl rfl)
theorem dX17_run_20 : decode cX17_run 20 = .ok (.aload_n 0, 1) := dk_42 (dk_at dksX17_run_0 20 rfl rfl)
theorem dX17_run_21 : decode cX17_run 21 = .ok (.iconst 1, 1) := dk_4 (dk_at dksX17_run_0 21 rfl rfl)
theorem dX17_run_22 : decode cX17_run 22 = .ok (.putfield 156, 3) := dk_181 0 156 (dk_at dksX17_run_1 0 rfl rfl)
theorem dX17_run_25 : decode cX17_run 25 = .ok (.aload_n 0, 1) := dk_42 (dk_at dksX17_run_1 3 rfl rfl)
theorem dX17_run_26 : decode cX17_run 26 = .ok (.iconst 0, 1) := dk_3 (dk_at dksX17_run_1 4 rfl rfl)
theorem dX17_run_27 : decode cX17_run 27 = .ok (.putfield 160, 3) := dk_181 0 160 (dk_at dksX17_run_1 5 rfl rfl)
theorem dX17_run_30 : decode cX17_run 30 = .ok (.aload_n 0, 1) := dk_42 (dk_at dksX17_run_1 8 rfl rfl)
theorem dX17_run_31 : decode cX17_run 31 = .ok (.iconst 0, 1) := dk_3 (dk_at dksX17_run_1 9 rfl rfl)
theorem dX17_run_32 : decode cX17_run 32 = .ok (.putfield 163, 3) := dk_181 0 163 (dk_at dksX17_run_1 10 rfl rfl)
theorem dX17_run_35 : decode cX17_run 35 = .ok (.aload_n 0, 1) := dk_42 (dk_at dksX17_run_1 13 rfl rfl)
theorem dX17_run_36 : decode cX17_run 36 = .ok (.aload_n 0, 1) := dk_42 (dk_at dksX17_run_1 14 rfl rfl)
theorem dX17_run_37 : decode cX17_run 37 = .ok (.getfield 93, 3) := dk_180 0 93 (dk_at dksX17_run_1 15 rfl rfl)
theorem dX17_run_40 : decode cX17_run 40 = .ok (.putfield 166, 3) := dk_181 0 166 (dk_at dksX17_run_1 18 rfl rfl)
theorem dX17_run_43 : decode cX17_run 43 = .ok (.aload_n 0, 1) := dk_42 (dk_at dksX17_run_1 21 rfl rfl)
theorem dX17_run_44 : decode cX17_run 44 = .ok (.aload_n 0, 1) := dk_42 (dk_at dksX17_run_1 22 rfl rfl)
theorem dX17_run_45 : decode cX17_run 45 = .ok (.getfield 99, 3) := dk_180 0 99 (dk_at dksX17_run_2 0 rfl rfl)
theorem dX17_run_48 : decode cX17_run 48 = .ok (.putfield 169, 3) := dk_181 0 169 (dk_at dksX17_run_2 3 rfl rfl)
theorem dX17_run_51 : decode cX17_run 51 = .ok (.aload_n 0, 1) := dk_42 (dk_at dksX17_run_2 6 rfl rfl)
theorem dX17_run_52 : decode cX17_run 52 = .ok (.aload_n 0, 1) := dk_42 (dk_at dksX17_run_2 7 rfl rfl)
theorem dX17_run_53 : decode cX17_run 53 = .ok (.getfield 75, 3) := dk_180 0 75 (dk_at dksX17_run_2 8 rfl rfl)
theorem dX17_run_56 : decode cX17_run 56 = .ok (.putfield 172, 3) := dk_181 0 172 (dk_at dksX17_run_2 11 rfl rfl)
theorem dX17_run_59 : decode cX17_run 59 = .ok (.iconst 1, 1) := dk_4 (dk_at dksX17_run_2 14 rfl rfl)
theorem dX17_run_60 : decode cX17_run 60 = .ok (.istore_n 3, 1) := dk_62 (dk_at dksX17_run_2 15 rfl rfl)
theorem dX17_run_61 : decode cX17_run 61 = .ok (.iload_n 3, 1) := dk_29 (dk_at dksX17_run_2 16 rfl rfl)
theorem dX17_run_62 : decode cX17_run 62 = .ok (.iconst 1, 1) := dk_4 (dk_at dksX17_run_2 17 rfl rfl)
theorem dX17_run_63 : decode cX17_run 63 = .ok (.aload_n 0, 1) := dk_42 (dk_at dksX17_run_2 18 rfl rfl)
theorem dX17_run_64 : decode cX17_run 64 = .ok (.getfield 75, 3) := dk_180 0 75 (dk_at dksX17_run_2 19 rfl rfl)
theorem dX17_run_67 : decode cX17_run 67 = .ok (.ishl, 1) := dk_120 (dk_at dksX17_run_2 22 rfl rfl)
theorem dX17_run_68 : decode cX17_run 68 = .ok (.if_icmp .ge 14, 3) := dk_162 0 14 (dk_at dksX17_run_3 0 rfl rfl)
theorem dX17_run_71 : decode cX17_run 71 = .ok (.aload_n 0, 1) := dk_42 (dk_at dksX17_run_3 3 rfl rfl)
theorem dX17_run_72 : decode cX17_run 72 = .ok (.iload_n 3, 1) := dk_29 (dk_at dksX17_run_3 4 rfl rfl)
theorem dX17_run_73 : decode cX17_run 73 = .ok (.invokevirtual 175, 3) := dk_182 0 175 (dk_at dksX17_run_3 5 rfl rfl)
theorem dX17_run_76 : decode cX17_run 76 = .ok (.iinc 3 1, 3) := dk_132 3 1 (dk_at dksX17_run_3 8 rfl rfl)
theorem dX17_run_79 : decode cX17_run 79 = .ok (.goto (-18), 3) := dk_167 255 238 (dk_at dksX17_run_3 11 rfl rfl)
theorem dX17_run_82 : decode cX17_run 82 = .ok (.aload_n 0, 1) := dk_42 (dk_at dksX17_run_3 14 rfl rfl)
theorem dX17_run_83 : decode cX17_run 83 = .ok (.invokevirtual 179, 3) := dk_182 0 179 (dk_at dksX17_run_3 15 rfl rfl)
theorem dX17_run_86 : decode cX17_run 86 = .ok (.aload_n 0, 1) := dk_42 (dk_at dksX17_run_3 18 rfl rfl)
theorem dX17_run_87 : decode cX17_run 87 = .ok (.iconst (-1), 1) := dk_2 (dk_at dksX17_run_3 19 rfl rfl)
theorem dX17_run_88 : decode cX17_run 88 = .ok (.aload_n 0, 1) := dk_42 (dk_at dksX17_run_3 20 rfl rfl)
theorem dX17_run_89 : decode cX17_run 89 = .ok (.getfield 68, 3) := dk_180 0 68 (dk_at dksX17_run_3 21 rfl rfl)
theorem dX17_run_92 : decode cX17_run 92 = .ok (.invokevirtual 182, 3) := dk_182 0 182 (dk_at dksX17_run_4 0 rfl rfl)
theorem dX17_run_95 : decode cX17_run 95 = .ok (.aload_n 0, 1) := dk_42 (dk_at dksX17_run_4 3 rfl rfl)
theorem dX17_run_96 : decode cX17_run 96 = .ok (.getfield 68, 3) := dk_180 0 68 (dk_at dksX17_run_4 4 rfl rfl)
theorem dX17_run_99 : decode cX17_run 99 = .ok (.invokevirtual 186, 3) := dk_182 0 186 (dk_at dksX17_run_4 7 rfl rfl)
theorem dX17_run_102 : decode cX17_run 102 = .ok (.ifCond .eq 7, 3) := dk_153 0 7 (dk_at dksX17_run_4 10 rfl rfl)
theorem dX17_run_105 : decode cX17_run 105 = .ok (.iconst 0, 1) := dk_3 (dk_at dksX17_run_4 13 rfl rfl)
theorem dX17_run_106 : decode cX17_run 106 = .ok (.goto 4, 3) := dk_167 0 4 (dk_at dksX17_run_4 14 rfl rfl)
theorem dX17_run_109 : decode cX17_run 109 = .ok (.iconst 1, 1) := dk_4 (dk_at dksX17_run_4 17 rfl rfl)
theorem dX17_run_110 : decode cX17_run 110 = .ok (.ireturn, 1) := dk_172 (dk_at dksX17_run_4 18 rfl rfl)
abbrev cX17_spread : ByteArray := prog_36_method_12_code
def yX17_spread : MethodName := ⟨RX17, "spread", "()I"⟩
def dkwX17_spread_4 : List UInt8 := [167, 255, 230, 132, 3, 1, 167, 255, 184, 132, 2, 1, 167, 255, 166, 27, 172]
abbrev dktX17_spread_4 : List UInt8 := dkwX17_spread_4 ++ []
def dkwX17_spread_3 : List UInt8 := [2, 159, 0, 26, 42, 28, 29, 21, 4, 182, 0, 135, 42, 180, 0, 29, 180, 0, 142, 21, 4, 46, 54, 4]
abbrev dktX17_spread_3 : List UInt8 := dkwX17_spread_3 ++ dktX17_spread_4
def dkwX17_spread_2 : List UInt8 := [2, 160, 0, 7, 3, 167, 0, 4, 4, 96, 60, 42, 180, 0, 29, 28, 29, 182, 0, 139, 54, 4, 21, 4]
abbrev dktX17_spread_2 : List UInt8 := dkwX17_spread_2 ++ dktX17_spread_3
def dkwX17_spread_1 : List UInt8 := [120, 162, 0, 86, 3, 62, 29, 42, 180, 0, 75, 162, 0, 70, 27, 42, 180, 0, 29, 28, 29, 182, 0, 139]
abbrev dktX17_spread_1 : List UInt8 := dkwX17_spread_1 ++ dktX17_spread_2
def dkwX17_spread_0 : List UInt8 := [42, 180, 0, 29, 182, 0, 132, 42, 3, 2, 2, 182, 0, 135, 3, 60, 4, 61, 28, 4, 42, 180, 0, 75]
abbrev dktX17_spread_0 : List UInt8 := dkwX17_spread_0 ++ dktX17_spread_1
theorem dksX17_spread_0 : cX17_spread.data.toList.drop 0 = dktX17_spread_0 := by decide +kernel
theorem dksX17_spread_1 : cX17_spread.data.toList.drop 24 = dktX17_spread_1 := dk_seg dksX17_spread_0 24 rfl rfl
theorem dksX17_spread_2 : cX17_spread.data.toList.drop 48 = dktX17_spread_2 := dk_seg dksX17_spread_1 24 rfl rfl
theorem dksX17_spread_3 : cX17_spread.data.toList.drop 72 = dktX17_spread_3 := dk_seg dksX17_spread_2 24 rfl rfl
theorem dksX17_spread_4 : cX17_spread.data.toList.drop 96 = dktX17_spread_4 := dk_seg dksX17_spread_3 24 rfl rfl
theorem dX17_spread_0 : decode cX17_spread 0 = .ok (.aload_n 0, 1) := dk_42 (dk_at dksX17_spread_0 0 rfl rfl)
theorem dX17_spread_1 : decode cX17_spread 1 = .ok (.getfield 29, 3) := dk_180 0 29 (dk_at dksX17_spread_0 1 rfl rfl)
theorem dX17_spread_4 : decode cX17_spread 4 = .ok (.invokevirtual 132, 3) := dk_182 0 132 (dk_at dksX17_spread_0 4 rfl rfl)
theorem dX17_spread_7 : decode cX17_spread 7 = .ok (.aload_n 0, 1) := dk_42 (dk_at dksX17_spread_0 7 rfl rfl)
theorem dX17_spread_8 : decode cX17_spread 8 = .ok (.iconst 0, 1) := dk_3 (dk_at dksX17_spread_0 8 rfl rfl)
theorem dX17_spread_9 : decode cX17_spread 9 = .ok (.iconst (-1), 1) := dk_2 (dk_at dksX17_spread_0 9 rfl rfl)
theorem dX17_spread_10 : decode cX17_spread 10 = .ok (.iconst (-1), 1) := dk_2 (dk_at dksX17_spread_0 10 rfl rfl)
theorem dX17_spread_11 : decode cX17_spread 11 = .ok (.invokevirtual 135, 3) := dk_182 0 135 (dk_at dksX17_spread_0 11 rfl rfl)
theorem dX17_spread_14 : decode cX17_spread 14 = .ok (.iconst 0, 1) := dk_3 (dk_at dksX17_spread_0 14 rfl rfl)
theorem dX17_spread_15 : decode cX17_spread 15 = .ok (.istore_n 1, 1) := dk_60 (dk_at dksX17_spread_0 15 rfl rfl)
theorem dX17_spread_16 : decode cX17_spread 16 = .ok (.iconst 1, 1) := dk_4 (dk_at dksX17_spread_0 16 rfl rfl)
theorem dX17_spread_17 : decode cX17_spread 17 = .ok (.istore_n 2, 1) := dk_61 (dk_at dksX17_spread_0 17 rfl rfl)
theorem dX17_spread_18 : decode cX17_spread 18 = .ok (.iload_n 2, 1) := dk_28 (dk_at dksX17_spread_0 18 rfl rfl)
theorem dX17_spread_19 : decode cX17_spread 19 = .ok (.iconst 1, 1) := dk_4 (dk_at dksX17_spread_0 19 rfl rfl)
theorem dX17_spread_20 : decode cX17_spread 20 = .ok (.aload_n 0, 1) := dk_42 (dk_at dksX17_spread_0 20 rfl rfl)
theorem dX17_spread_21 : decode cX17_spread 21 = .ok (.getfield 75, 3) := dk_180 0 75 (dk_at dksX17_spread_0 21 rfl rfl)
theorem dX17_spread_24 : decode cX17_spread 24 = .ok (.ishl, 1) := dk_120 (dk_at dksX17_spread_1 0 rfl rfl)
theorem dX17_spread_25 : decode cX17_spread 25 = .ok (.if_icmp .ge 86, 3) := dk_162 0 86 (dk_at dksX17_spread_1 1 rfl rfl)
theorem dX17_spread_28 : decode cX17_spread 28 = .ok (.iconst 0, 1) := dk_3 (dk_at dksX17_spread_1 4 rfl rfl)
theorem dX17_spread_29 : decode cX17_spread 29 = .ok (.istore_n 3, 1) := dk_62 (dk_at dksX17_spread_1 5 rfl rfl)
theorem dX17_spread_30 : decode cX17_spread 30 = .ok (.iload_n 3, 1) := dk_29 (dk_at dksX17_spread_1 6 rfl rfl)
theorem dX17_spread_31 : decode cX17_spread 31 = .ok (.aload_n 0, 1) := dk_42 (dk_at dksX17_spread_1 7 rfl rfl)
theorem dX17_spread_32 : decode cX17_spread 32 = .ok (.getfield 75, 3) := dk_180 0 75 (dk_at dksX17_spread_1 8 rfl rfl)
theorem dX17_spread_35 : decode cX17_spread 35 = .ok (.if_icmp .ge 70, 3) := dk_162 0 70 (dk_at dksX17_spread_1 11 rfl rfl)
theorem dX17_spread_38 : decode cX17_spread 38 = .ok (.iload_n 1, 1) := dk_27 (dk_at dksX17_spread_1 14 rfl rfl)
theorem dX17_spread_39 : decode cX17_spread 39 = .ok (.aload_n 0, 1) := dk_42 (dk_at dksX17_spread_1 15 rfl rfl)
theorem dX17_spread_40 : decode cX17_spread 40 = .ok (.getfield 29, 3) := dk_180 0 29 (dk_at dksX17_spread_1 16 rfl rfl)
theorem dX17_spread_43 : decode cX17_spread 43 = .ok (.iload_n 2, 1) := dk_28 (dk_at dksX17_spread_1 19 rfl rfl)
theorem dX17_spread_44 : decode cX17_spread 44 = .ok (.iload_n 3, 1) := dk_29 (dk_at dksX17_spread_1 20 rfl rfl)
theorem dX17_spread_45 : decode cX17_spread 45 = .ok (.invokevirtual 139, 3) := dk_182 0 139 (dk_at dksX17_spread_1 21 rfl rfl)
theorem dX17_spread_48 : decode cX17_spread 48 = .ok (.iconst (-1), 1) := dk_2 (dk_at dksX17_spread_2 0 rfl rfl)
theorem dX17_spread_49 : decode cX17_spread 49 = .ok (.if_icmp .ne 7, 3) := dk_160 0 7 (dk_at dksX17_spread_2 1 rfl rfl)
theorem dX17_spread_52 : decode cX17_spread 52 = .ok (.iconst 0, 1) := dk_3 (dk_at dksX17_spread_2 4 rfl rfl)
theorem dX17_spread_53 : decode cX17_spread 53 = .ok (.goto 4, 3) := dk_167 0 4 (dk_at dksX17_spread_2 5 rfl rfl)
theorem dX17_spread_56 : decode cX17_spread 56 = .ok (.iconst 1, 1) := dk_4 (dk_at dksX17_spread_2 8 rfl rfl)
theorem dX17_spread_57 : decode cX17_spread 57 = .ok (.iadd, 1) := dk_96 (dk_at dksX17_spread_2 9 rfl rfl)
theorem dX17_spread_58 : decode cX17_spread 58 = .ok (.istore_n 1, 1) := dk_60 (dk_at dksX17_spread_2 10 rfl rfl)
theorem dX17_spread_59 : decode cX17_spread 59 = .ok (.aload_n 0, 1) := dk_42 (dk_at dksX17_spread_2 11 rfl rfl)
theorem dX17_spread_60 : decode cX17_spread 60 = .ok (.getfield 29, 3) := dk_180 0 29 (dk_at dksX17_spread_2 12 rfl rfl)
theorem dX17_spread_63 : decode cX17_spread 63 = .ok (.iload_n 2, 1) := dk_28 (dk_at dksX17_spread_2 15 rfl rfl)
theorem dX17_spread_64 : decode cX17_spread 64 = .ok (.iload_n 3, 1) := dk_29 (dk_at dksX17_spread_2 16 rfl rfl)
theorem dX17_spread_65 : decode cX17_spread 65 = .ok (.invokevirtual 139, 3) := dk_182 0 139 (dk_at dksX17_spread_2 17 rfl rfl)
theorem dX17_spread_68 : decode cX17_spread 68 = .ok (.istore 4, 2) := dk_54 4 (dk_at dksX17_spread_2 20 rfl rfl)
theorem dX17_spread_70 : decode cX17_spread 70 = .ok (.iload 4, 2) := dk_21 4 (dk_at dksX17_spread_2 22 rfl rfl)
theorem dX17_spread_72 : decode cX17_spread 72 = .ok (.iconst (-1), 1) := dk_2 (dk_at dksX17_spread_3 0 rfl rfl)
theorem dX17_spread_73 : decode cX17_spread 73 = .ok (.if_icmp .eq 26, 3) := dk_159 0 26 (dk_at dksX17_spread_3 1 rfl rfl)
theorem dX17_spread_76 : decode cX17_spread 76 = .ok (.aload_n 0, 1) := dk_42 (dk_at dksX17_spread_3 4 rfl rfl)
theorem dX17_spread_77 : decode cX17_spread 77 = .ok (.iload_n 2, 1) := dk_28 (dk_at dksX17_spread_3 5 rfl rfl)
theorem dX17_spread_78 : decode cX17_spread 78 = .ok (.iload_n 3, 1) := dk_29 (dk_at dksX17_spread_3 6 rfl rfl)
theorem dX17_spread_79 : decode cX17_spread 79 = .ok (.iload 4, 2) := dk_21 4 (dk_at dksX17_spread_3 7 rfl rfl)
theorem dX17_spread_81 : decode cX17_spread 81 = .ok (.invokevirtual 135, 3) := dk_182 0 135 (dk_at dksX17_spread_3 9 rfl rfl)
theorem dX17_spread_84 : decode cX17_spread 84 = .ok (.aload_n 0, 1) := dk_42 (dk_at dksX17_spread_3 12 rfl rfl)
theorem dX17_spread_85 : decode cX17_spread 85 = .ok (.getfield 29, 3) := dk_180 0 29 (dk_at dksX17_spread_3 13 rfl rfl)
theorem dX17_spread_88 : decode cX17_spread 88 = .ok (.getfield 142, 3) := dk_180 0 142 (dk_at dksX17_spread_3 16 rfl rfl)
theorem dX17_spread_91 : decode cX17_spread 91 = .ok (.iload 4, 2) := dk_21 4 (dk_at dksX17_spread_3 19 rfl rfl)
theorem dX17_spread_93 : decode cX17_spread 93 = .ok (.iaload, 1) := dk_46 (dk_at dksX17_spread_3 21 rfl rfl)
theorem dX17_spread_94 : decode cX17_spread 94 = .ok (.istore 4, 2) := dk_54 4 (dk_at dksX17_spread_3 22 rfl rfl)
theorem dX17_spread_96 : decode cX17_spread 96 = .ok (.goto (-26), 3) := dk_167 255 230 (dk_at dksX17_spread_4 0 rfl rfl)
theorem dX17_spread_99 : decode cX17_spread 99 = .ok (.iinc 3 1, 3) := dk_132 3 1 (dk_at dksX17_spread_4 3 rfl rfl)
theorem dX17_spread_102 : decode cX17_spread 102 = .ok (.goto (-72), 3) := dk_167 255 184 (dk_at dksX17_spread_4 6 rfl rfl)
theorem dX17_spread_105 : decode cX17_spread 105 = .ok (.iinc 2 1, 3) := dk_132 2 1 (dk_at dksX17_spread_4 9 rfl rfl)
theorem dX17_spread_108 : decode cX17_spread 108 = .ok (.goto (-90), 3) := dk_167 255 166 (dk_at dksX17_spread_4 12 rfl rfl)
theorem dX17_spread_111 : decode cX17_spread 111 = .ok (.iload_n 1, 1) := dk_27 (dk_at dksX17_spread_4 15 rfl rfl)
theorem dX17_spread_112 : decode cX17_spread 112 = .ok (.ireturn, 1) := dk_172 (dk_at dksX17_spread_4 16 rfl rfl)
abbrev cX17_grow : ByteArray := prog_36_method_11_code
def yX17_grow : MethodName := ⟨RX17, "grow", "(III)V"⟩
def dkwX17_grow_8 : List UInt8 := [167, 255, 75, 177]
abbrev dktX17_grow_8 : List UInt8 := dkwX17_grow_8 ++ []
def dkwX17_grow_7 : List UInt8 := [180, 0, 29, 180, 0, 127, 29, 46, 6, 120, 21, 4, 128, 21, 8, 21, 7, 182, 0, 128, 132, 4, 1]
abbrev dktX17_grow_7 : List UInt8 := dkwX17_grow_7 ++ dktX17_grow_8
def dkwX17_grow_6 : List UInt8 := [180, 0, 96, 163, 0, 40, 42, 180, 0, 29, 21, 6, 21, 4, 29, 156, 0, 7, 3, 167, 0, 12, 42]
abbrev dktX17_grow_6 : List UInt8 := dkwX17_grow_6 ++ dktX17_grow_7
def dkwX17_grow_5 : List UInt8 := [29, 46, 42, 180, 0, 19, 16, 7, 21, 5, 104, 21, 4, 96, 4, 96, 46, 96, 54, 8, 21, 7, 42]
abbrev dktX17_grow_5 : List UInt8 := dkwX17_grow_5 ++ dktX17_grow_6
def dkwX17_grow_4 : List UInt8 := [180, 0, 13, 21, 4, 46, 96, 54, 7, 29, 156, 0, 7, 3, 167, 0, 12, 42, 180, 0, 29, 180, 0, 126]
abbrev dktX17_grow_4 : List UInt8 := dkwX17_grow_4 ++ dktX17_grow_5
def dkwX17_grow_3 : List UInt8 := [180, 0, 123, 29, 46, 42, 180, 0, 16, 16, 7, 21, 5, 104, 21, 4, 96, 4, 96, 46, 96, 42]
abbrev dktX17_grow_3 : List UInt8 := dkwX17_grow_3 ++ dktX17_grow_4
def dkwX17_grow_2 : List UInt8 := [182, 0, 119, 42, 180, 0, 93, 163, 0, 127, 29, 156, 0, 7, 3, 167, 0, 12, 42, 180, 0, 29]
abbrev dktX17_grow_2 : List UInt8 := dkwX17_grow_2 ++ dktX17_grow_3
def dkwX17_grow_1 : List UInt8 := [54, 6, 21, 6, 27, 159, 0, 153, 42, 21, 5, 21, 4, 4, 96, 182, 0, 115, 153, 0, 140, 42, 21, 6]
abbrev dktX17_grow_1 : List UInt8 := dkwX17_grow_1 ++ dktX17_grow_2
def dkwX17_grow_0 : List UInt8 := [3, 54, 4, 21, 4, 42, 180, 0, 75, 162, 0, 178, 28, 4, 96, 54, 5, 27, 4, 21, 4, 120, 128]
abbrev dktX17_grow_0 : List UInt8 := dkwX17_grow_0 ++ dktX17_grow_1
theorem dksX17_grow_0 : cX17_grow.data.toList.drop 0 = dktX17_grow_0 := by decide +kernel
theorem dksX17_grow_1 : cX17_grow.data.toList.drop 23 = dktX17_grow_1 := dk_seg dksX17_grow_0 23 rfl rfl
theorem dksX17_grow_2 : cX17_grow.data.toList.drop 47 = dktX17_grow_2 := dk_seg dksX17_grow_1 24 rfl rfl
theorem dksX17_grow_3 : cX17_grow.data.toList.drop 69 = dktX17_grow_3 := dk_seg dksX17_grow_2 22 rfl rfl
theorem dksX17_grow_4 : cX17_grow.data.toList.drop 91 = dktX17_grow_4 := dk_seg dksX17_grow_3 22 rfl rfl
theorem dksX17_grow_5 : cX17_grow.data.toList.drop 115 = dktX17_grow_5 := dk_seg dksX17_grow_4 24 rfl rfl
theorem dksX17_grow_6 : cX17_grow.data.toList.drop 138 = dktX17_grow_6 := dk_seg dksX17_grow_5 23 rfl rfl
theorem dksX17_grow_7 : cX17_grow.data.toList.drop 161 = dktX17_grow_7 := dk_seg dksX17_grow_6 23 rfl rfl
theorem dksX17_grow_8 : cX17_grow.data.toList.drop 184 = dktX17_grow_8 := dk_seg dksX17_grow_7 23 rfl rfl
theorem dX17_grow_0 : decode cX17_grow 0 = .ok (.iconst 0, 1) := dk_3 (dk_at dksX17_grow_0 0 rfl rfl)
theorem dX17_grow_1 : decode cX17_grow 1 = .ok (.istore 4, 2) := dk_54 4 (dk_at dksX17_grow_0 1 rfl rfl)
theorem dX17_grow_3 : decode cX17_grow 3 = .ok (.iload 4, 2) := dk_21 4 (dk_at dksX17_grow_0 3 rfl rfl)
theorem dX17_grow_5 : decode cX17_grow 5 = .ok (.aload_n 0, 1) := dk_42 (dk_at dksX17_grow_0 5 rfl rfl)
theorem dX17_grow_6 : decode cX17_grow 6 = .ok (.getfield 75, 3) := dk_180 0 75 (dk_at dksX17_grow_0 6 rfl rfl)
theorem dX17_grow_9 : decode cX17_grow 9 = .ok (.if_icmp .ge 178, 3) := dk_162 0 178 (dk_at dksX17_grow_0 9 rfl rfl)
theorem dX17_grow_12 : decode cX17_grow 12 = .ok (.iload_n 2, 1) := dk_28 (dk_at dksX17_grow_0 12 rfl rfl)
theorem dX17_grow_13 : decode cX17_grow 13 = .ok (.iconst 1, 1) := dk_4 (dk_at dksX17_grow_0 13 rfl rfl)
theorem dX17_grow_14 : decode cX17_grow 14 = .ok (.iadd, 1) := dk_96 (dk_at dksX17_grow_0 14 rfl rfl)
theorem dX17_grow_15 : decode cX17_grow 15 = .ok (.istore 5, 2) := dk_54 5 (dk_at dksX17_grow_0 15 rfl rfl)
theorem dX17_grow_17 : decode cX17_grow 17 = .ok (.iload_n 1, 1) := dk_27 (dk_at dksX17_grow_0 17 rfl rfl)
theorem dX17_grow_18 : decode cX17_grow 18 = .ok (.iconst 1, 1) := dk_4 (dk_at dksX17_grow_0 18 rfl rfl)
theorem dX17_grow_19 : decode cX17_grow 19 = .ok (.iload 4, 2) := dk_21 4 (dk_at dksX17_grow_0 19 rfl rfl)
theorem dX17_grow_21 : decode cX17_grow 21 = .ok (.ishl, 1) := dk_120 (dk_at dksX17_grow_0 21 rfl rfl)
theorem dX17_grow_22 : decode cX17_grow 22 = .ok (.ior, 1) := dk_128 (dk_at dksX17_grow_0 22 rfl rfl)
theorem dX17_grow_23 : decode cX17_grow 23 = .ok (.istore 6, 2) := dk_54 6 (dk_at dksX17_grow_1 0 rfl rfl)
theorem dX17_grow_25 : decode cX17_grow 25 = .ok (.iload 6, 2) := dk_21 6 (dk_at dksX17_grow_1 2 rfl rfl)
theorem dX17_grow_27 : decode cX17_grow 27 = .ok (.iload_n 1, 1) := dk_27 (dk_at dksX17_grow_1 4 rfl rfl)
theorem dX17_grow_28 : decode cX17_grow 28 = .ok (.if_icmp .eq 153, 3) := dk_159 0 153 (dk_at dksX17_grow_1 5 rfl rfl)
theorem dX17_grow_31 : decode cX17_grow 31 = .ok (.aload_n 0, 1) := dk_42 (dk_at dksX17_grow_1 8 rfl rfl)
theorem dX17_grow_32 : decode cX17_grow 32 = .ok (.iload 5, 2) := dk_21 5 (dk_at dksX17_grow_1 9 rfl rfl)
theorem dX17_grow_34 : decode cX17_grow 34 = .ok (.iload 4, 2) := dk_21 4 (dk_at dksX17_grow_1 11 rfl rfl)
theorem dX17_grow_36 : decode cX17_grow 36 = .ok (.iconst 1, 1) := dk_4 (dk_at dksX17_grow_1 13 rfl rfl)
theorem dX17_grow_37 : decode cX17_grow 37 = .ok (.iadd, 1) := dk_96 (dk_at dksX17_grow_1 14 rfl rfl)
theorem dX17_grow_38 : decode cX17_grow 38 = .ok (.invokevirtual 115, 3) := dk_182 0 115 (dk_at dksX17_grow_1 15 rfl rfl)
theorem dX17_grow_41 : decode cX17_grow 41 = .ok (.ifCond .eq 140, 3) := dk_153 0 140 (dk_at dksX17_grow_1 18 rfl rfl)
theorem dX17_grow_44 : decode cX17_grow 44 = .ok (.aload_n 0, 1) := dk_42 (dk_at dksX17_grow_1 21 rfl rfl)
theorem dX17_grow_45 : decode cX17_grow 45 = .ok (.iload 6, 2) := dk_21 6 (dk_at dksX17_grow_1 22 rfl rfl)
theorem dX17_grow_47 : decode cX17_grow 47 = .ok (.invokevirtual 119, 3) := dk_182 0 119 (dk_at dksX17_grow_2 0 rfl rfl)
theorem dX17_grow_50 : decode cX17_grow 50 = .ok (.aload_n 0, 1) := dk_42 (dk_at dksX17_grow_2 3 rfl rfl)
theorem dX17_grow_51 : decode cX17_grow 51 = .ok (.getfield 93, 3) := dk_180 0 93 (dk_at dksX17_grow_2 4 rfl rfl)
theorem dX17_grow_54 : decode cX17_grow 54 = .ok (.if_icmp .gt 127, 3) := dk_163 0 127 (dk_at dksX17_grow_2 7 rfl rfl)
theorem dX17_grow_57 : decode cX17_grow 57 = .ok (.iload_n 3, 1) := dk_29 (dk_at dksX17_grow_2 10 rfl rfl)
theorem dX17_grow_58 : decode cX17_grow 58 = .ok (.ifCond .ge 7, 3) := dk_156 0 7 (dk_at dksX17_grow_2 11 rfl rfl)
theorem dX17_grow_61 : decode cX17_grow 61 = .ok (.iconst 0, 1) := dk_3 (dk_at dksX17_grow_2 14 rfl rfl)
theorem dX17_grow_62 : decode cX17_grow 62 = .ok (.goto 12, 3) := dk_167 0 12 (dk_at dksX17_grow_2 15 rfl rfl)
theorem dX17_grow_65 : decode cX17_grow 65 = .ok (.aload_n 0, 1) := dk_42 (dk_at dksX17_grow_2 18 rfl rfl)
theorem dX17_grow_66 : decode cX17_grow 66 = .ok (.getfield 29, 3) := dk_180 0 29 (dk_at dksX17_grow_2 19 rfl rfl)
theorem dX17_grow_69 : decode cX17_grow 69 = .ok (.getfield 123, 3) := dk_180 0 123 (dk_at dksX17_grow_3 0 rfl rfl)
theorem dX17_grow_72 : decode cX17_grow 72 = .ok (.iload_n 3, 1) := dk_29 (dk_at dksX17_grow_3 3 rfl rfl)
theorem dX17_grow_73 : decode cX17_grow 73 = .ok (.iaload, 1) := dk_46 (dk_at dksX17_grow_3 4 rfl rfl)
theorem dX17_grow_74 : decode cX17_grow 74 = .ok (.aload_n 0, 1) := dk_42 (dk_at dksX17_grow_3 5 rfl rfl)
theorem dX17_grow_75 : decode cX17_grow 75 = .ok (.getfield 16, 3) := dk_180 0 16 (dk_at dksX17_grow_3 6 rfl rfl)
theorem dX17_grow_78 : decode cX17_grow 78 = .ok (.bipush 7, 2) := dk_16 7 (dk_at dksX17_grow_3 9 rfl rfl)
theorem dX17_grow_80 : decode cX17_grow 80 = .ok (.iload 5, 2) := dk_21 5 (dk_at dksX17_grow_3 11 rfl rfl)
theorem dX17_grow_82 : decode cX17_grow 82 = .ok (.imul, 1) := dk_104 (dk_at dksX17_grow_3 13 rfl rfl)
theorem dX17_grow_83 : decode cX17_grow 83 = .ok (.iload 4, 2) := dk_21 4 (dk_at dksX17_grow_3 14 rfl rfl)
theorem dX17_grow_85 : decode cX17_grow 85 = .ok (.iadd, 1) := dk_96 (dk_at dksX17_grow_3 16 rfl rfl)
theorem dX17_grow_86 : decode cX17_grow 86 = .ok (.iconst 1, 1) := dk_4 (dk_at dksX17_grow_3 17 rfl rfl)
theorem dX17_grow_87 : decode cX17_grow 87 = .ok (.iadd, 1) := dk_96 (dk_at dksX17_grow_3 18 rfl rfl)
theorem dX17_grow_88 : decode cX17_grow 88 = .ok (.iaload, 1) := dk_46 (dk_at dksX17_grow_3 19 rfl rfl)
theorem dX17_grow_89 : decode cX17_grow 89 = .ok (.iadd, 1) := dk_96 (dk_at dksX17_grow_3 20 rfl rfl)
theorem dX17_grow_90 : decode cX17_grow 90 = .ok (.aload_n 0, 1) := dk_42 (dk_at dksX17_grow_3 21 rfl rfl)
theorem dX17_grow_91 : decode cX17_grow 91 = .ok (.getfield 13, 3) := dk_180 0 13 (dk_at dksX17_grow_4 0 rfl rfl)
theorem dX17_grow_94 : decode cX17_grow 94 = .ok (.iload 4, 2) := dk_21 4 (dk_at dksX17_grow_4 3 rfl rfl)
theorem dX17_grow_96 : decode cX17_grow 96 = .ok (.iaload, 1) := dk_46 (dk_at dksX17_grow_4 5 rfl rfl)
theorem dX17_grow_97 : decode cX17_grow 97 = .ok (.iadd, 1) := dk_96 (dk_at dksX17_grow_4 6 rfl rfl)
theorem dX17_grow_98 : decode cX17_grow 98 = .ok (.istore 7, 2) := dk_54 7 (dk_at dksX17_grow_4 7 rfl rfl)
theorem dX17_grow_100 : decode cX17_grow 100 = .ok (.iload_n 3, 1) := dk_29 (dk_at dksX17_grow_4 9 rfl rfl)
theorem dX17_grow_101 : decode cX17_grow 101 = .ok (.ifCond .ge 7, 3) := dk_156 0 7 (dk_at dksX17_grow_4 10 rfl rfl)
theorem dX17_grow_104 : decode cX17_grow 104 = .ok (.iconst 0, 1) := dk_3 (dk_at dksX17_grow_4 13 rfl rfl)
theorem dX17_grow_105 : decode cX17_grow 105 = .ok (.goto 12, 3) := dk_167 0 12 (dk_at dksX17_grow_4 14 rfl rfl)
theorem dX17_grow_108 : decode cX17_grow 108 = .ok (.aload_n 0, 1) := dk_42 (dk_at dksX17_grow_4 17 rfl rfl)
theorem dX17_grow_109 : decode cX17_grow 109 = .ok (.getfield 29, 3) := dk_180 0 29 (dk_at dksX17_grow_4 18 rfl rfl)
theorem dX17_grow_112 : decode cX17_grow 112 = .ok (.getfield 126, 3) := dk_180 0 126 (dk_at dksX17_grow_4 21 rfl rfl)
theorem dX17_grow_115 : decode cX17_grow 115 = .ok (.iload_n 3, 1) := dk_29 (dk_at dksX17_grow_5 0 rfl rfl)
theorem dX17_grow_116 : decode cX17_grow 116 = .ok (.iaload, 1) := dk_46 (dk_at dksX17_grow_5 1 rfl rfl)
theorem dX17_grow_117 : decode cX17_grow 117 = .ok (.aload_n 0, 1) := dk_42 (dk_at dksX17_grow_5 2 rfl rfl)
theorem dX17_grow_118 : decode cX17_grow 118 = .ok (.getfield 19, 3) := dk_180 0 19 (dk_at dksX17_grow_5 3 rfl rfl)
theorem dX17_grow_121 : decode cX17_grow 121 = .ok (.bipush 7, 2) := dk_16 7 (dk_at dksX17_grow_5 6 rfl rfl)
theorem dX17_grow_123 : decode cX17_grow 123 = .ok (.iload 5, 2) := dk_21 5 (dk_at dksX17_grow_5 8 rfl rfl)
theorem dX17_grow_125 : decode cX17_grow 125 = .ok (.imul, 1) := dk_104 (dk_at dksX17_grow_5 10 rfl rfl)
theorem dX17_grow_126 : decode cX17_grow 126 = .ok (.iload 4, 2) := dk_21 4 (dk_at dksX17_grow_5 11 rfl rfl)
theorem dX17_grow_128 : decode cX17_grow 128 = .ok (.iadd, 1) := dk_96 (dk_at dksX17_grow_5 13 rfl rfl)
theorem dX17_grow_129 : decode cX17_grow 129 = .ok (.iconst 1, 1) := dk_4 (dk_at dksX17_grow_5 14 rfl rfl)
theorem dX17_grow_130 : decode cX17_grow 130 = .ok (.iadd, 1) := dk_96 (dk_at dksX17_grow_5 15 rfl rfl)
theorem dX17_grow_131 : decode cX17_grow 131 = .ok (.iaload, 1) := dk_46 (dk_at dksX17_grow_5 16 rfl rfl)
theorem dX17_grow_132 : decode cX17_grow 132 = .ok (.iadd, 1) := dk_96 (dk_at dksX17_grow_5 17 rfl rfl)
theorem dX17_grow_133 : decode cX17_grow 133 = .ok (.istore 8, 2) := dk_54 8 (dk_at dksX17_grow_5 18 rfl rfl)
theorem dX17_grow_135 : decode cX17_grow 135 = .ok (.iload 7, 2) := dk_21 7 (dk_at dksX17_grow_5 20 rfl rfl)
theorem dX17_grow_137 : decode cX17_grow 137 = .ok (.aload_n 0, 1) := dk_42 (dk_at dksX17_grow_5 22 rfl rfl)
theorem dX17_grow_138 : decode cX17_grow 138 = .ok (.getfield 96, 3) := dk_180 0 96 (dk_at dksX17_grow_6 0 rfl rfl)
theorem dX17_grow_141 : decode cX17_grow 141 = .ok (.if_icmp .gt 40, 3) := dk_163 0 40 (dk_at dksX17_grow_6 3 rfl rfl)
theorem dX17_grow_144 : decode cX17_grow 144 = .ok (.aload_n 0, 1) := dk_42 (dk_at dksX17_grow_6 6 rfl rfl)
theorem dX17_grow_145 : decode cX17_grow 145 = .ok (.getfield 29, 3) := dk_180 0 29 (dk_at dksX17_grow_6 7 rfl rfl)
theorem dX17_grow_148 : decode cX17_grow 148 = .ok (.iload 6, 2) := dk_21 6 (dk_at dksX17_grow_6 10 rfl rfl)
theorem dX17_grow_150 : decode cX17_grow 150 = .ok (.iload 4, 2) := dk_21 4 (dk_at dksX17_grow_6 12 rfl rfl)
theorem dX17_grow_152 : decode cX17_grow 152 = .ok (.iload_n 3, 1) := dk_29 (dk_at dksX17_grow_6 14 rfl rfl)
theorem dX17_grow_153 : decode cX17_grow 153 = .ok (.ifCond .ge 7, 3) := dk_156 0 7 (dk_at dksX17_grow_6 15 rfl rfl)
theorem dX17_grow_156 : decode cX17_grow 156 = .ok (.iconst 0, 1) := dk_3 (dk_at dksX17_grow_6 18 rfl rfl)
theorem dX17_grow_157 : decode cX17_grow 157 = .ok (.goto 12, 3) := dk_167 0 12 (dk_at dksX17_grow_6 19 rfl rfl)
theorem dX17_grow_160 : decode cX17_grow 160 = .ok (.aload_n 0, 1) := dk_42 (dk_at dksX17_grow_6 22 rfl rfl)
theorem dX17_grow_161 : decode cX17_grow 161 = .ok (.getfield 29, 3) := dk_180 0 29 (dk_at dksX17_grow_7 0 rfl rfl)
theorem dX17_grow_164 : decode cX17_grow 164 = .ok (.getfield 127, 3) := dk_180 0 127 (dk_at dksX17_grow_7 3 rfl rfl)
theorem dX17_grow_167 : decode cX17_grow 167 = .ok (.iload_n 3, 1) := dk_29 (dk_at dksX17_grow_7 6 rfl rfl)
theorem dX17_grow_168 : decode cX17_grow 168 = .ok (.iaload, 1) := dk_46 (dk_at dksX17_grow_7 7 rfl rfl)
theorem dX17_grow_169 : decode cX17_grow 169 = .ok (.iconst 3, 1) := dk_6 (dk_at dksX17_grow_7 8 rfl rfl)
theorem dX17_grow_170 : decode cX17_grow 170 = .ok (.ishl, 1) := dk_120 (dk_at dksX17_grow_7 9 rfl rfl)
theorem dX17_grow_171 : decode cX17_grow 171 = .ok (.iload 4, 2) := dk_21 4 (dk_at dksX17_grow_7 10 rfl rfl)
theorem dX17_grow_173 : decode cX17_grow 173 = .ok (.ior, 1) := dk_128 (dk_at dksX17_grow_7 12 rfl rfl)
theorem dX17_grow_174 : decode cX17_grow 174 = .ok (.iload 8, 2) := dk_21 8 (dk_at dksX17_grow_7 13 rfl rfl)
theorem dX17_grow_176 : decode cX17_grow 176 = .ok (.iload 7, 2) := dk_21 7 (dk_at dksX17_grow_7 15 rfl rfl)
theorem dX17_grow_178 : decode cX17_grow 178 = .ok (.invokevirtual 128, 3) := dk_182 0 128 (dk_at dksX17_grow_7 17 rfl rfl)
theorem dX17_grow_181 : decode cX17_grow 181 = .ok (.iinc 4 1, 3) := dk_132 4 1 (dk_at dksX17_grow_7 20 rfl rfl)
theorem dX17_grow_184 : decode cX17_grow 184 = .ok (.goto (-181), 3) := dk_167 255 75 (dk_at dksX17_grow_8 0 rfl rfl)
theorem dX17_grow_187 : decode cX17_grow 187 = .ok (.return_, 1) := dk_177 (dk_at dksX17_grow_8 3 rfl rfl)
abbrev cX17_isTold : ByteArray := prog_36_method_9_code
def yX17_isTold : MethodName := ⟨RX17, "isTold", "(II)Z"⟩
def dkwX17_isTold_0 : List UInt8 := [42, 180, 0, 16, 16, 7, 27, 104, 28, 96, 46, 2, 159, 0, 7, 4, 167, 0, 4, 3, 172]
abbrev dktX17_isTold_0 : List UInt8 := dkwX17_isTold_0 ++ []
theorem dksX17_isTold_0 : cX17_isTold.data.toList.drop 0 = dktX17_isTold_0 := by decide +kernel
theorem dX17_isTold_0 : decode cX17_isTold 0 = .ok (.aload_n 0, 1) := dk_42 (dk_at dksX17_isTold_0 0 rfl rfl)
theorem dX17_isTold_1 : decode cX17_isTold 1 = .ok (.getfield 16, 3) := dk_180 0 16 (dk_at dksX17_isTold_0 1 rfl rfl)
theorem dX17_isTold_4 : decode cX17_isTold 4 = .ok (.bipush 7, 2) := dk_16 7 (dk_at dksX17_isTold_0 4 rfl rfl)
theorem dX17_isTold_6 : decode cX17_isTold 6 = .ok (.iload_n 1, 1) := dk_27 (dk_at dksX17_isTold_0 6 rfl rfl)
theorem dX17_isTold_7 : decode cX17_isTold 7 = .ok (.imul, 1) := dk_104 (dk_at dksX17_isTold_0 7 rfl rfl)
theorem dX17_isTold_8 : decode cX17_isTold 8 = .ok (.iload_n 2, 1) := dk_28 (dk_at dksX17_isTold_0 8 rfl rfl)
theorem dX17_isTold_9 : decode cX17_isTold 9 = .ok (.iadd, 1) := dk_96 (dk_at dksX17_isTold_0 9 rfl rfl)
theorem dX17_isTold_10 : decode cX17_isTold 10 = .ok (.iaload, 1) := dk_46 (dk_at dksX17_isTold_0 10 rfl rfl)
theorem dX17_isTold_11 : decode cX17_isTold 11 = .ok (.iconst (-1), 1) := dk_2 (dk_at dksX17_isTold_0 11 rfl rfl)
theorem dX17_isTold_12 : decode cX17_isTold 12 = .ok (.if_icmp .eq 7, 3) := dk_159 0 7 (dk_at dksX17_isTold_0 12 rfl rfl)
theorem dX17_isTold_15 : decode cX17_isTold 15 = .ok (.iconst 1, 1) := dk_4 (dk_at dksX17_isTold_0 15 rfl rfl)
theorem dX17_isTold_16 : decode cX17_isTold 16 = .ok (.goto 4, 3) := dk_167 0 4 (dk_at dksX17_isTold_0 16 rfl rfl)
theorem dX17_isTold_19 : decode cX17_isTold 19 = .ok (.iconst 0, 1) := dk_3 (dk_at dksX17_isTold_0 19 rfl rfl)
theorem dX17_isTold_20 : decode cX17_isTold 20 = .ok (.ireturn, 1) := dk_172 (dk_at dksX17_isTold_0 20 rfl rfl)
abbrev cX17_weightOf : ByteArray := prog_36_method_10_code
def yX17_weightOf : MethodName := ⟨RX17, "weightOf", "(I)I"⟩
def dkwX17_weightOf_1 : List UInt8 := [104, 96, 61, 132, 3, 1, 167, 255, 230, 28, 172]
abbrev dktX17_weightOf_1 : List UInt8 := dkwX17_weightOf_1 ++ []
def dkwX17_weightOf_0 : List UInt8 := [3, 61, 3, 62, 29, 42, 180, 0, 75, 162, 0, 24, 28, 27, 29, 122, 4, 126, 42, 180, 0, 7, 29, 46]
abbrev dktX17_weightOf_0 : List UInt8 := dkwX17_weightOf_0 ++ dktX17_weightOf_1
theorem dksX17_weightOf_0 : cX17_weightOf.data.toList.drop 0 = dktX17_weightOf_0 := by decide +kernel
theorem dksX17_weightOf_1 : cX17_weightOf.data.toList.drop 24 = dktX17_weightOf_1 := dk_seg dksX17_weightOf_0 24 rfl rfl
theorem dX17_weightOf_0 : decode cX17_weightOf 0 = .ok (.iconst 0, 1) := dk_3 (dk_at dksX17_weightOf_0 0 rfl rfl)
theorem dX17_weightOf_1 : decode cX17_weightOf 1 = .ok (.istore_n 2, 1) := dk_61 (dk_at dksX17_weightOf_0 1 rfl rfl)
theorem dX17_weightOf_2 : decode cX17_weightOf 2 = .ok (.iconst 0, 1) := dk_3 (dk_at dksX17_weightOf_0 2 rfl rfl)
theorem dX17_weightOf_3 : decode cX17_weightOf 3 = .ok (.istore_n 3, 1) := dk_62 (dk_at dksX17_weightOf_0 3 rfl rfl)
theorem dX17_weightOf_4 : decode cX17_weightOf 4 = .ok (.iload_n 3, 1) := dk_29 (dk_at dksX17_weightOf_0 4 rfl rfl)
theorem dX17_weightOf_5 : decode cX17_weightOf 5 = .ok (.aload_n 0, 1) := dk_42 (dk_at dksX17_weightOf_0 5 rfl rfl)
theorem dX17_weightOf_6 : decode cX17_weightOf 6 = .ok (.getfield 75, 3) := dk_180 0 75 (dk_at dksX17_weightOf_0 6 rfl rfl)
theorem dX17_weightOf_9 : decode cX17_weightOf 9 = .ok (.if_icmp .ge 24, 3) := dk_162 0 24 (dk_at dksX17_weightOf_0 9 rfl rfl)
theorem dX17_weightOf_12 : decode cX17_weightOf 12 = .ok (.iload_n 2, 1) := dk_28 (dk_at dksX17_weightOf_0 12 rfl rfl)
theorem dX17_weightOf_13 : decode cX17_weightOf 13 = .ok (.iload_n 1, 1) := dk_27 (dk_at dksX17_weightOf_0 13 rfl rfl)
theorem dX17_weightOf_14 : decode cX17_weightOf 14 = .ok (.iload_n 3, 1) := dk_29 (dk_at dksX17_weightOf_0 14 rfl rfl)
theorem dX17_weightOf_15 : decode cX17_weightOf 15 = .ok (.ishr, 1) := dk_122 (dk_at dksX17_weightOf_0 15 rfl rfl)
theorem dX17_weightOf_16 : decode cX17_weightOf 16 = .ok (.iconst 1, 1) := dk_4 (dk_at dksX17_weightOf_0 16 rfl rfl)
theorem dX17_weightOf_17 : decode cX17_weightOf 17 = .ok (.iand, 1) := dk_126 (dk_at dksX17_weightOf_0 17 rfl rfl)
theorem dX17_weightOf_18 : decode cX17_weightOf 18 = .ok (.aload_n 0, 1) := dk_42 (dk_at dksX17_weightOf_0 18 rfl rfl)
theorem dX17_weightOf_19 : decode cX17_weightOf 19 = .ok (.getfield 7, 3) := dk_180 0 7 (dk_at dksX17_weightOf_0 19 rfl rfl)
theorem dX17_weightOf_22 : decode cX17_weightOf 22 = .ok (.iload_n 3, 1) := dk_29 (dk_at dksX17_weightOf_0 22 rfl rfl)
theorem dX17_weightOf_23 : decode cX17_weightOf 23 = .ok (.iaload, 1) := dk_46 (dk_at dksX17_weightOf_0 23 rfl rfl)
theorem dX17_weightOf_24 : decode cX17_weightOf 24 = .ok (.imul, 1) := dk_104 (dk_at dksX17_weightOf_1 0 rfl rfl)
theorem dX17_weightOf_25 : decode cX17_weightOf 25 = .ok (.iadd, 1) := dk_96 (dk_at dksX17_weightOf_1 1 rfl rfl)
theorem dX17_weightOf_26 : decode cX17_weightOf 26 = .ok (.istore_n 2, 1) := dk_61 (dk_at dksX17_weightOf_1 2 rfl rfl)
theorem dX17_weightOf_27 : decode cX17_weightOf 27 = .ok (.iinc 3 1, 3) := dk_132 3 1 (dk_at dksX17_weightOf_1 3 rfl rfl)
theorem dX17_weightOf_30 : decode cX17_weightOf 30 = .ok (.goto (-26), 3) := dk_167 255 230 (dk_at dksX17_weightOf_1 6 rfl rfl)
theorem dX17_weightOf_33 : decode cX17_weightOf 33 = .ok (.iload_n 2, 1) := dk_28 (dk_at dksX17_weightOf_1 9 rfl rfl)
theorem dX17_weightOf_34 : decode cX17_weightOf 34 = .ok (.ireturn, 1) := dk_172 (dk_at dksX17_weightOf_1 10 rfl rfl)
abbrev cX17_close : ByteArray := prog_36_method_14_code
def yX17_close : MethodName := ⟨RX17, "close", "(I)V"⟩
def dkwX17_close_11 : List UInt8 := [42, 180, 0, 56, 42, 89, 180, 0, 163, 90, 4, 96, 181, 0, 163, 42, 27, 182, 0, 190, 84, 177]
abbrev dktX17_close_11 : List UInt8 := dkwX17_close_11 ++ []
def dkwX17_close_10 : List UInt8 := [42, 180, 0, 53, 42, 180, 0, 163, 29, 79, 42, 180, 0, 59, 42, 180, 0, 163, 42, 27, 182, 0, 119, 79]
abbrev dktX17_close_10 : List UInt8 := dkwX17_close_10 ++ dktX17_close_11
def dkwX17_close_9 : List UInt8 := [2, 159, 0, 68, 42, 180, 0, 47, 42, 180, 0, 163, 27, 79, 42, 180, 0, 50, 42, 180, 0, 163, 28, 79]
abbrev dktX17_close_9 : List UInt8 := dkwX17_close_9 ++ dktX17_close_10
def dkwX17_close_8 : List UInt8 := [180, 0, 43, 42, 89, 180, 0, 160, 90, 4, 96, 181, 0, 160, 21, 6, 84, 132, 4, 1, 167, 255, 55, 28]
abbrev dktX17_close_8 : List UInt8 := dkwX17_close_8 ++ dktX17_close_9
def dkwX17_close_7 : List UInt8 := [54, 7, 167, 255, 123, 21, 5, 2, 159, 0, 31, 42, 180, 0, 40, 42, 180, 0, 160, 27, 79, 42]
abbrev dktX17_close_7 : List UInt8 := dkwX17_close_7 ++ dktX17_close_8
def dkwX17_close_6 : List UInt8 := [42, 180, 0, 29, 180, 0, 127, 21, 7, 46, 61, 21, 8, 62, 42, 180, 0, 29, 180, 0, 142, 21, 7, 46]
abbrev dktX17_close_6 : List UInt8 := dkwX17_close_6 ++ dktX17_close_7
def dkwX17_close_5 : List UInt8 := [29, 161, 0, 23, 21, 8, 29, 160, 0, 31, 42, 180, 0, 29, 180, 0, 127, 21, 7, 46, 28, 162, 0, 17]
abbrev dktX17_close_5 : List UInt8 := dkwX17_close_5 ++ dktX17_close_6
def dkwX17_close_4 : List UInt8 := [180, 0, 19, 16, 7, 21, 4, 4, 96, 104, 46, 96, 54, 8, 4, 54, 6, 28, 2, 159, 0, 29, 21, 8]
abbrev dktX17_close_4 : List UInt8 := dkwX17_close_4 ++ dktX17_close_5
def dkwX17_close_3 : List UInt8 := [4, 96, 104, 46, 96, 42, 180, 0, 96, 163, 0, 76, 42, 180, 0, 29, 180, 0, 126, 21, 7, 46, 42]
abbrev dktX17_close_3 : List UInt8 := dkwX17_close_3 ++ dktX17_close_4
def dkwX17_close_2 : List UInt8 := [182, 0, 115, 153, 0, 106, 42, 180, 0, 29, 180, 0, 123, 21, 7, 46, 42, 180, 0, 16, 16, 7, 21, 4]
abbrev dktX17_close_2 : List UInt8 := dkwX17_close_2 ++ dktX17_close_3
def dkwX17_close_1 : List UInt8 := [182, 0, 139, 54, 5, 3, 54, 6, 21, 5, 54, 7, 21, 7, 2, 159, 0, 133, 42, 21, 4, 4, 96, 3]
abbrev dktX17_close_1 : List UInt8 := dkwX17_close_1 ++ dktX17_close_2
def dkwX17_close_0 : List UInt8 := [2, 61, 3, 62, 3, 54, 4, 21, 4, 42, 180, 0, 75, 162, 0, 198, 42, 180, 0, 29, 27, 21, 4]
abbrev dktX17_close_0 : List UInt8 := dkwX17_close_0 ++ dktX17_close_1
theorem dksX17_close_0 : cX17_close.data.toList.drop 0 = dktX17_close_0 := by decide +kernel
theorem dksX17_close_1 : cX17_close.data.toList.drop 23 = dktX17_close_1 := dk_seg dksX17_close_0 23 rfl rfl
theorem dksX17_close_2 : cX17_close.data.toList.drop 47 = dktX17_close_2 := dk_seg dksX17_close_1 24 rfl rfl
theorem dksX17_close_3 : cX17_close.data.toList.drop 71 = dktX17_close_3 := dk_seg dksX17_close_2 24 rfl rfl
theorem dksX17_close_4 : cX17_close.data.toList.drop 94 = dktX17_close_4 := dk_seg dksX17_close_3 23 rfl rfl
theorem dksX17_close_5 : cX17_close.data.toList.drop 118 = dktX17_close_5 := dk_seg dksX17_close_4 24 rfl rfl
theorem dksX17_close_6 : cX17_close.data.toList.drop 142 = dktX17_close_6 := dk_seg dksX17_close_5 24 rfl rfl
theorem dksX17_close_7 : cX17_close.data.toList.drop 166 = dktX17_close_7 := dk_seg dksX17_close_6 24 rfl rfl
theorem dksX17_close_8 : cX17_close.data.toList.drop 188 = dktX17_close_8 := dk_seg dksX17_close_7 22 rfl rfl
theorem dksX17_close_9 : cX17_close.data.toList.drop 212 = dktX17_close_9 := dk_seg dksX17_close_8 24 rfl rfl
theorem dksX17_close_10 : cX17_close.data.toList.drop 236 = dktX17_close_10 := dk_seg dksX17_close_9 24 rfl rfl
theorem dksX17_close_11 : cX17_close.data.toList.drop 260 = dktX17_close_11 := dk_seg dksX17_close_10 24 rfl rfl
theorem dX17_close_0 : decode cX17_close 0 = .ok (.iconst (-1), 1) := dk_2 (dk_at dksX17_close_0 0 rfl rfl)
theorem dX17_close_1 : decode cX17_close 1 = .ok (.istore_n 2, 1) := dk_61 (dk_at dksX17_close_0 1 rfl rfl)
theorem dX17_close_2 : decode cX17_close 2 = .ok (.iconst 0, 1) := dk_3 (dk_at dksX17_close_0 2 rfl rfl)
theorem dX17_close_3 : decode cX17_close 3 = .ok (.istore_n 3, 1) := dk_62 (dk_at dksX17_close_0 3 rfl rfl)
theorem dX17_close_4 : decode cX17_close 4 = .ok (.iconst 0, 1) := dk_3 (dk_at dksX17_close_0 4 rfl rfl)
theorem dX17_close_5 : decode cX17_close 5 = .ok (.istore 4, 2) := dk_54 4 (dk_at dksX17_close_0 5 rfl rfl)
theorem dX17_close_7 : decode cX17_close 7 = .ok (.iload 4, 2) := dk_21 4 (dk_at dksX17_close_0 7 rfl rfl)
theorem dX17_close_9 : decode cX17_close 9 = .ok (.aload_n 0, 1) := dk_42 (dk_at dksX17_close_0 9 rfl rfl)
theorem dX17_close_10 : decode cX17_close 10 = .ok (.getfield 75, 3) := dk_180 0 75 (dk_at dksX17_close_0 10 rfl rfl)
theorem dX17_close_13 : decode cX17_close 13 = .ok (.if_icmp .ge 198, 3) := dk_162 0 198 (dk_at dksX17_close_0 13 rfl rfl)
theorem dX17_close_16 : decode cX17_close 16 = .ok (.aload_n 0, 1) := dk_42 (dk_at dksX17_close_0 16 rfl rfl)
theorem dX17_close_17 : decode cX17_close 17 = .ok (.getfield 29, 3) := dk_180 0 29 (dk_at dksX17_close_0 17 rfl rfl)
theorem dX17_close_20 : decode cX17_close 20 = .ok (.iload_n 1, 1) := dk_27 (dk_at dksX17_close_0 20 rfl rfl)
theorem dX17_close_21 : decode cX17_close 21 = .ok (.iload 4, 2) := dk_21 4 (dk_at dksX17_close_0 21 rfl rfl)
theorem dX17_close_23 : decode cX17_close 23 = .ok (.invokevirtual 139, 3) := dk_182 0 139 (dk_at dksX17_close_1 0 rfl rfl)
theorem dX17_close_26 : decode cX17_close 26 = .ok (.istore 5, 2) := dk_54 5 (dk_at dksX17_close_1 3 rfl rfl)
theorem dX17_close_28 : decode cX17_close 28 = .ok (.iconst 0, 1) := dk_3 (dk_at dksX17_close_1 5 rfl rfl)
theorem dX17_close_29 : decode cX17_close 29 = .ok (.istore 6, 2) := dk_54 6 (dk_at dksX17_close_1 6 rfl rfl)
theorem dX17_close_31 : decode cX17_close 31 = .ok (.iload 5, 2) := dk_21 5 (dk_at dksX17_close_1 8 rfl rfl)
theorem dX17_close_33 : decode cX17_close 33 = .ok (.istore 7, 2) := dk_54 7 (dk_at dksX17_close_1 10 rfl rfl)
theorem dX17_close_35 : decode cX17_close 35 = .ok (.iload 7, 2) := dk_21 7 (dk_at dksX17_close_1 12 rfl rfl)
theorem dX17_close_37 : decode cX17_close 37 = .ok (.iconst (-1), 1) := dk_2 (dk_at dksX17_close_1 14 rfl rfl)
theorem dX17_close_38 : decode cX17_close 38 = .ok (.if_icmp .eq 133, 3) := dk_159 0 133 (dk_at dksX17_close_1 15 rfl rfl)
theorem dX17_close_41 : decode cX17_close 41 = .ok (.aload_n 0, 1) := dk_42 (dk_at dksX17_close_1 18 rfl rfl)
theorem dX17_close_42 : decode cX17_close 42 = .ok (.iload 4, 2) := dk_21 4 (dk_at dksX17_close_1 19 rfl rfl)
theorem dX17_close_44 : decode cX17_close 44 = .ok (.iconst 1, 1) := dk_4 (dk_at dksX17_close_1 21 rfl rfl)
theorem dX17_close_45 : decode cX17_close 45 = .ok (.iadd, 1) := dk_96 (dk_at dksX17_close_1 22 rfl rfl)
theorem dX17_close_46 : decode cX17_close 46 = .ok (.iconst 0, 1) := dk_3 (dk_at dksX17_close_1 23 rfl rfl)
theorem dX17_close_47 : decode cX17_close 47 = .ok (.invokevirtual 115, 3) := dk_182 0 115 (dk_at dksX17_close_2 0 rfl rfl)
theorem dX17_close_50 : decode cX17_close 50 = .ok (.ifCond .eq 106, 3) := dk_153 0 106 (dk_at dksX17_close_2 3 rfl rfl)
theorem dX17_close_53 : decode cX17_close 53 = .ok (.aload_n 0, 1) := dk_42 (dk_at dksX17_close_2 6 rfl rfl)
theorem dX17_close_54 : decode cX17_close 54 = .ok (.getfield 29, 3) := dk_180 0 29 (dk_at dksX17_close_2 7 rfl rfl)
theorem dX17_close_57 : decode cX17_close 57 = .ok (.getfield 123, 3) := dk_180 0 123 (dk_at dksX17_close_2 10 rfl rfl)
theorem dX17_close_60 : decode cX17_close 60 = .ok (.iload 7, 2) := dk_21 7 (dk_at dksX17_close_2 13 rfl rfl)
theorem dX17_close_62 : decode cX17_close 62 = .ok (.iaload, 1) := dk_46 (dk_at dksX17_close_2 15 rfl rfl)
theorem dX17_close_63 : decode cX17_close 63 = .ok (.aload_n 0, 1) := dk_42 (dk_at dksX17_close_2 16 rfl rfl)
theorem dX17_close_64 : decode cX17_close 64 = .ok (.getfield 16, 3) := dk_180 0 16 (dk_at dksX17_close_2 17 rfl rfl)
theorem dX17_close_67 : decode cX17_close 67 = .ok (.bipush 7, 2) := dk_16 7 (dk_at dksX17_close_2 20 rfl rfl)
theorem dX17_close_69 : decode cX17_close 69 = .ok (.iload 4, 2) := dk_21 4 (dk_at dksX17_close_2 22 rfl rfl)
theorem dX17_close_71 : decode cX17_close 71 = .ok (.iconst 1, 1) := dk_4 (dk_at dksX17_close_3 0 rfl rfl)
theorem dX17_close_72 : decode cX17_close 72 = .ok (.iadd, 1) := dk_96 (dk_at dksX17_close_3 1 rfl rfl)
theorem dX17_close_73 : decode cX17_close 73 = .ok (.imul, 1) := dk_104 (dk_at dksX17_close_3 2 rfl rfl)
theorem dX17_close_74 : decode cX17_close 74 = .ok (.iaload, 1) := dk_46 (dk_at dksX17_close_3 3 rfl rfl)
theorem dX17_close_75 : decode cX17_close 75 = .ok (.iadd, 1) := dk_96 (dk_at dksX17_close_3 4 rfl rfl)
theorem dX17_close_76 : decode cX17_close 76 = .ok (.aload_n 0, 1) := dk_42 (dk_at dksX17_close_3 5 rfl rfl)
theorem dX17_close_77 : decode cX17_close 77 = .ok (.getfield 96, 3) := dk_180 0 96 (dk_at dksX17_close_3 6 rfl rfl)
theorem dX17_close_80 : decode cX17_close 80 = .ok (.if_icmp .gt 76, 3) := dk_163 0 76 (dk_at dksX17_close_3 9 rfl rfl)
theorem dX17_close_83 : decode cX17_close 83 = .ok (.aload_n 0, 1) := dk_42 (dk_at dksX17_close_3 12 rfl rfl)
theorem dX17_close_84 : decode cX17_close 84 = .ok (.getfield 29, 3) := dk_180 0 29 (dk_at dksX17_close_3 13 rfl rfl)
theorem dX17_close_87 : decode cX17_close 87 = .ok (.getfield 126, 3) := dk_180 0 126 (dk_at dksX17_close_3 16 rfl rfl)
theorem dX17_close_90 : decode cX17_close 90 = .ok (.iload 7, 2) := dk_21 7 (dk_at dksX17_close_3 19 rfl rfl)
theorem dX17_close_92 : decode cX17_close 92 = .ok (.iaload, 1) := dk_46 (dk_at dksX17_close_3 21 rfl rfl)
theorem dX17_close_93 : decode cX17_close 93 = .ok (.aload_n 0, 1) := dk_42 (dk_at dksX17_close_3 22 rfl rfl)
theorem dX17_close_94 : decode cX17_close 94 = .ok (.getfield 19, 3) := dk_180 0 19 (dk_at dksX17_close_4 0 rfl rfl)
theorem dX17_close_97 : decode cX17_close 97 = .ok (.bipush 7, 2) := dk_16 7 (dk_at dksX17_close_4 3 rfl rfl)
theorem dX17_close_99 : decode cX17_close 99 = .ok (.iload 4, 2) := dk_21 4 (dk_at dksX17_close_4 5 rfl rfl)
theorem dX17_close_101 : decode cX17_close 101 = .ok (.iconst 1, 1) := dk_4 (dk_at dksX17_close_4 7 rfl rfl)
theorem dX17_close_102 : decode cX17_close 102 = .ok (.iadd, 1) := dk_96 (dk_at dksX17_close_4 8 rfl rfl)
theorem dX17_close_103 : decode cX17_close 103 = .ok (.imul, 1) := dk_104 (dk_at dksX17_close_4 9 rfl rfl)
theorem dX17_close_104 : decode cX17_close 104 = .ok (.iaload, 1) := dk_46 (dk_at dksX17_close_4 10 rfl rfl)
theorem dX17_close_105 : decode cX17_close 105 = .ok (.iadd, 1) := dk_96 (dk_at dksX17_close_4 11 rfl rfl)
theorem dX17_close_106 : decode cX17_close 106 = .ok (.istore 8, 2) := dk_54 8 (dk_at dksX17_close_4 12 rfl rfl)
theorem dX17_close_108 : decode cX17_close 108 = .ok (.iconst 1, 1) := dk_4 (dk_at dksX17_close_4 14 rfl rfl)
theorem dX17_close_109 : decode cX17_close 109 = .ok (.istore 6, 2) := dk_54 6 (dk_at dksX17_close_4 15 rfl rfl)
theorem dX17_close_111 : decode cX17_close 111 = .ok (.iload_n 2, 1) := dk_28 (dk_at dksX17_close_4 17 rfl rfl)
theorem dX17_close_112 : decode cX17_close 112 = .ok (.iconst (-1), 1) := dk_2 (dk_at dksX17_close_4 18 rfl rfl)
theorem dX17_close_113 : decode cX17_close 113 = .ok (.if_icmp .eq 29, 3) := dk_159 0 29 (dk_at dksX17_close_4 19 rfl rfl)
theorem dX17_close_116 : decode cX17_close 116 = .ok (.iload 8, 2) := dk_21 8 (dk_at dksX17_close_4 22 rfl rfl)
theorem dX17_close_118 : decode cX17_close 118 = .ok (.iload_n 3, 1) := dk_29 (dk_at dksX17_close_5 0 rfl rfl)
theorem dX17_close_119 : decode cX17_close 119 = .ok (.if_icmp .lt 23, 3) := dk_161 0 23 (dk_at dksX17_close_5 1 rfl rfl)
theorem dX17_close_122 : decode cX17_close 122 = .ok (.iload 8, 2) := dk_21 8 (dk_at dksX17_close_5 4 rfl rfl)
theorem dX17_close_124 : decode cX17_close 124 = .ok (.iload_n 3, 1) := dk_29 (dk_at dksX17_close_5 6 rfl rfl)
theorem dX17_close_125 : decode cX17_close 125 = .ok (.if_icmp .ne 31, 3) := dk_160 0 31 (dk_at dksX17_close_5 7 rfl rfl)
theorem dX17_close_128 : decode cX17_close 128 = .ok (.aload_n 0, 1) := dk_42 (dk_at dksX17_close_5 10 rfl rfl)
theorem dX17_close_129 : decode cX17_close 129 = .ok (.getfield 29, 3) := dk_180 0 29 (dk_at dksX17_close_5 11 rfl rfl)
theorem dX17_close_132 : decode cX17_close 132 = .ok (.getfield 127, 3) := dk_180 0 127 (dk_at dksX17_close_5 14 rfl rfl)
theorem dX17_close_135 : decode cX17_close 135 = .ok (.iload 7, 2) := dk_21 7 (dk_at dksX17_close_5 17 rfl rfl)
theorem dX17_close_137 : decode cX17_close 137 = .ok (.iaload, 1) := dk_46 (dk_at dksX17_close_5 19 rfl rfl)
theorem dX17_close_138 : decode cX17_close 138 = .ok (.iload_n 2, 1) := dk_28 (dk_at dksX17_close_5 20 rfl rfl)
theorem dX17_close_139 : decode cX17_close 139 = .ok (.if_icmp .ge 17, 3) := dk_162 0 17 (dk_at dksX17_close_5 21 rfl rfl)
theorem dX17_close_142 : decode cX17_close 142 = .ok (.aload_n 0, 1) := dk_42 (dk_at dksX17_close_6 0 rfl rfl)
theorem dX17_close_143 : decode cX17_close 143 = .ok (.getfield 29, 3) := dk_180 0 29 (dk_at dksX17_close_6 1 rfl rfl)
theorem dX17_close_146 : decode cX17_close 146 = .ok (.getfield 127, 3) := dk_180 0 127 (dk_at dksX17_close_6 4 rfl rfl)
theorem dX17_close_149 : decode cX17_close 149 = .ok (.iload 7, 2) := dk_21 7 (dk_at dksX17_close_6 7 rfl rfl)
theorem dX17_close_151 : decode cX17_close 151 = .ok (.iaload, 1) := dk_46 (dk_at dksX17_close_6 9 rfl rfl)
theorem dX17_close_152 : decode cX17_close 152 = .ok (.istore_n 2, 1) := dk_61 (dk_at dksX17_close_6 10 rfl rfl)
theorem dX17_close_153 : decode cX17_close 153 = .ok (.iload 8, 2) := dk_21 8 (dk_at dksX17_close_6 11 rfl rfl)
theorem dX17_close_155 : decode cX17_close 155 = .ok (.istore_n 3, 1) := dk_62 (dk_at dksX17_close_6 13 rfl rfl)
theorem dX17_close_156 : decode cX17_close 156 = .ok (.aload_n 0, 1) := dk_42 (dk_at dksX17_close_6 14 rfl rfl)
theorem dX17_close_157 : decode cX17_close 157 = .ok (.getfield 29, 3) := dk_180 0 29 (dk_at dksX17_close_6 15 rfl rfl)
theorem dX17_close_160 : decode cX17_close 160 = .ok (.getfield 142, 3) := dk_180 0 142 (dk_at dksX17_close_6 18 rfl rfl)
theorem dX17_close_163 : decode cX17_close 163 = .ok (.iload 7, 2) := dk_21 7 (dk_at dksX17_close_6 21 rfl rfl)
theorem dX17_close_165 : decode cX17_close 165 = .ok (.iaload, 1) := dk_46 (dk_at dksX17_close_6 23 rfl rfl)
theorem dX17_close_166 : decode cX17_close 166 = .ok (.istore 7, 2) := dk_54 7 (dk_at dksX17_close_7 0 rfl rfl)
theorem dX17_close_168 : decode cX17_close 168 = .ok (.goto (-133), 3) := dk_167 255 123 (dk_at dksX17_close_7 2 rfl rfl)
theorem dX17_close_171 : decode cX17_close 171 = .ok (.iload 5, 2) := dk_21 5 (dk_at dksX17_close_7 5 rfl rfl)
theorem dX17_close_173 : decode cX17_close 173 = .ok (.iconst (-1), 1) := dk_2 (dk_at dksX17_close_7 7 rfl rfl)
theorem dX17_close_174 : decode cX17_close 174 = .ok (.if_icmp .eq 31, 3) := dk_159 0 31 (dk_at dksX17_close_7 8 rfl rfl)
theorem dX17_close_177 : decode cX17_close 177 = .ok (.aload_n 0, 1) := dk_42 (dk_at dksX17_close_7 11 rfl rfl)
theorem dX17_close_178 : decode cX17_close 178 = .ok (.getfield 40, 3) := dk_180 0 40 (dk_at dksX17_close_7 12 rfl rfl)
theorem dX17_close_181 : decode cX17_close 181 = .ok (.aload_n 0, 1) := dk_42 (dk_at dksX17_close_7 15 rfl rfl)
theorem dX17_close_182 : decode cX17_close 182 = .ok (.getfield 160, 3) := dk_180 0 160 (dk_at dksX17_close_7 16 rfl rfl)
theorem dX17_close_185 : decode cX17_close 185 = .ok (.iload_n 1, 1) := dk_27 (dk_at dksX17_close_7 19 rfl rfl)
theorem dX17_close_186 : decode cX17_close 186 = .ok (.iastore, 1) := dk_79 (dk_at dksX17_close_7 20 rfl rfl)
theorem dX17_close_187 : decode cX17_close 187 = .ok (.aload_n 0, 1) := dk_42 (dk_at dksX17_close_7 21 rfl rfl)
theorem dX17_close_188 : decode cX17_close 188 = .ok (.getfield 43, 3) := dk_180 0 43 (dk_at dksX17_close_8 0 rfl rfl)
theorem dX17_close_191 : decode cX17_close 191 = .ok (.aload_n 0, 1) := dk_42 (dk_at dksX17_close_8 3 rfl rfl)
theorem dX17_close_192 : decode cX17_close 192 = .ok (.dup, 1) := dk_89 (dk_at dksX17_close_8 4 rfl rfl)
theorem dX17_close_193 : decode cX17_close 193 = .ok (.getfield 160, 3) := dk_180 0 160 (dk_at dksX17_close_8 5 rfl rfl)
theorem dX17_close_196 : decode cX17_close 196 = .ok (.dup_x1, 1) := dk_90 (dk_at dksX17_close_8 8 rfl rfl)
theorem dX17_close_197 : decode cX17_close 197 = .ok (.iconst 1, 1) := dk_4 (dk_at dksX17_close_8 9 rfl rfl)
theorem dX17_close_198 : decode cX17_close 198 = .ok (.iadd, 1) := dk_96 (dk_at dksX17_close_8 10 rfl rfl)
theorem dX17_close_199 : decode cX17_close 199 = .ok (.putfield 160, 3) := dk_181 0 160 (dk_at dksX17_close_8 11 rfl rfl)
theorem dX17_close_202 : decode cX17_close 202 = .ok (.iload 6, 2) := dk_21 6 (dk_at dksX17_close_8 14 rfl rfl)
theorem dX17_close_204 : decode cX17_close 204 = .ok (.bastore, 1) := dk_84 (dk_at dksX17_close_8 16 rfl rfl)
theorem dX17_close_205 : decode cX17_close 205 = .ok (.iinc 4 1, 3) := dk_132 4 1 (dk_at dksX17_close_8 17 rfl rfl)
theorem dX17_close_208 : decode cX17_close 208 = .ok (.goto (-201), 3) := dk_167 255 55 (dk_at dksX17_close_8 20 rfl rfl)
theorem dX17_close_211 : decode cX17_close 211 = .ok (.iload_n 2, 1) := dk_28 (dk_at dksX17_close_8 23 rfl rfl)
theorem dX17_close_212 : decode cX17_close 212 = .ok (.iconst (-1), 1) := dk_2 (dk_at dksX17_close_9 0 rfl rfl)
theorem dX17_close_213 : decode cX17_close 213 = .ok (.if_icmp .eq 68, 3) := dk_159 0 68 (dk_at dksX17_close_9 1 rfl rfl)
theorem dX17_close_216 : decode cX17_close 216 = .ok (.aload_n 0, 1) := dk_42 (dk_at dksX17_close_9 4 rfl rfl)
theorem dX17_close_217 : decode cX17_close 217 = .ok (.getfield 47, 3) := dk_180 0 47 (dk_at dksX17_close_9 5 rfl rfl)
theorem dX17_close_220 : decode cX17_close 220 = .ok (.aload_n 0, 1) := dk_42 (dk_at dksX17_close_9 8 rfl rfl)
theorem dX17_close_221 : decode cX17_close 221 = .ok (.getfield 163, 3) := dk_180 0 163 (dk_at dksX17_close_9 9 rfl rfl)
theorem dX17_close_224 : decode cX17_close 224 = .ok (.iload_n 1, 1) := dk_27 (dk_at dksX17_close_9 12 rfl rfl)
theorem dX17_close_225 : decode cX17_close 225 = .ok (.iastore, 1) := dk_79 (dk_at dksX17_close_9 13 rfl rfl)
theorem dX17_close_226 : decode cX17_close 226 = .ok (.aload_n 0, 1) := dk_42 (dk_at dksX17_close_9 14 rfl rfl)
theorem dX17_close_227 : decode cX17_close 227 = .ok (.getfield 50, 3) := dk_180 0 50 (dk_at dksX17_close_9 15 rfl rfl)
theorem dX17_close_230 : decode cX17_close 230 = .ok (.aload_n 0, 1) := dk_42 (dk_at dksX17_close_9 18 rfl rfl)
theorem dX17_close_231 : decode cX17_close 231 = .ok (.getfield 163, 3) := dk_180 0 163 (dk_at dksX17_close_9 19 rfl rfl)
theorem dX17_close_234 : decode cX17_close 234 = .ok (.iload_n 2, 1) := dk_28 (dk_at dksX17_close_9 22 rfl rfl)
theorem dX17_close_235 : decode cX17_close 235 = .ok (.iastore, 1) := dk_79 (dk_at dksX17_close_9 23 rfl rfl)
theorem dX17_close_236 : decode cX17_close 236 = .ok (.aload_n 0, 1) := dk_42 (dk_at dksX17_close_10 0 rfl rfl)
theorem dX17_close_237 : decode cX17_close 237 = .ok (.getfield 53, 3) := dk_180 0 53 (dk_at dksX17_close_10 1 rfl rfl)
theorem dX17_close_240 : decode cX17_close 240 = .ok (.aload_n 0, 1) := dk_42 (dk_at dksX17_close_10 4 rfl rfl)
theorem dX17_close_241 : decode cX17_close 241 = .ok (.getfield 163, 3) := dk_180 0 163 (dk_at dksX17_close_10 5 rfl rfl)
theorem dX17_close_244 : decode cX17_close 244 = .ok (.iload_n 3, 1) := dk_29 (dk_at dksX17_close_10 8 rfl rfl)
theorem dX17_close_245 : decode cX17_close 245 = .ok (.iastore, 1) := dk_79 (dk_at dksX17_close_10 9 rfl rfl)
theorem dX17_close_246 : decode cX17_close 246 = .ok (.aload_n 0, 1) := dk_42 (dk_at dksX17_close_10 10 rfl rfl)
theorem dX17_close_247 : decode cX17_close 247 = .ok (.getfield 59, 3) := dk_180 0 59 (dk_at dksX17_close_10 11 rfl rfl)
theorem dX17_close_250 : decode cX17_close 250 = .ok (.aload_n 0, 1) := dk_42 (dk_at dksX17_close_10 14 rfl rfl)
theorem dX17_close_251 : decode cX17_close 251 = .ok (.getfield 163, 3) := dk_180 0 163 (dk_at dksX17_close_10 15 rfl rfl)
theorem dX17_close_254 : decode cX17_close 254 = .ok (.aload_n 0, 1) := dk_42 (dk_at dksX17_close_10 18 rfl rfl)
theorem dX17_close_255 : decode cX17_close 255 = .ok (.iload_n 1, 1) := dk_27 (dk_at dksX17_close_10 19 rfl rfl)
theorem dX17_close_256 : decode cX17_close 256 = .ok (.invokevirtual 119, 3) := dk_182 0 119 (dk_at dksX17_close_10 20 rfl rfl)
theorem dX17_close_259 : decode cX17_close 259 = .ok (.iastore, 1) := dk_79 (dk_at dksX17_close_10 23 rfl rfl)
theorem dX17_close_260 : decode cX17_close 260 = .ok (.aload_n 0, 1) := dk_42 (dk_at dksX17_close_11 0 rfl rfl)
theorem dX17_close_261 : decode cX17_close 261 = .ok (.getfield 56, 3) := dk_180 0 56 (dk_at dksX17_close_11 1 rfl rfl)
theorem dX17_close_264 : decode cX17_close 264 = .ok (.aload_n 0, 1) := dk_42 (dk_at dksX17_close_11 4 rfl rfl)
theorem dX17_close_265 : decode cX17_close 265 = .ok (.dup, 1) := dk_89 (dk_at dksX17_close_11 5 rfl rfl)
theorem dX17_close_266 : decode cX17_close 266 = .ok (.getfield 163, 3) := dk_180 0 163 (dk_at dksX17_close_11 6 rfl rfl)
theorem dX17_close_269 : decode cX17_close 269 = .ok (.dup_x1, 1) := dk_90 (dk_at dksX17_close_11 9 rfl rfl)
theorem dX17_close_270 : decode cX17_close 270 = .ok (.iconst 1, 1) := dk_4 (dk_at dksX17_close_11 10 rfl rfl)
theorem dX17_close_271 : decode cX17_close 271 = .ok (.iadd, 1) := dk_96 (dk_at dksX17_close_11 11 rfl rfl)
theorem dX17_close_272 : decode cX17_close 272 = .ok (.putfield 163, 3) := dk_181 0 163 (dk_at dksX17_close_11 12 rfl rfl)
theorem dX17_close_275 : decode cX17_close 275 = .ok (.aload_n 0, 1) := dk_42 (dk_at dksX17_close_11 15 rfl rfl)
theorem dX17_close_276 : decode cX17_close 276 = .ok (.iload_n 1, 1) := dk_27 (dk_at dksX17_close_11 16 rfl rfl)
theorem dX17_close_277 : decode cX17_close 277 = .ok (.invokevirtual 190, 3) := dk_182 0 190 (dk_at dksX17_close_11 17 rfl rfl)
theorem dX17_close_280 : decode cX17_close 280 = .ok (.bastore, 1) := dk_84 (dk_at dksX17_close_11 20 rfl rfl)
theorem dX17_close_281 : decode cX17_close 281 = .ok (.return_, 1) := dk_177 (dk_at dksX17_close_11 21 rfl rfl)
abbrev cX17_isBarred : ByteArray := prog_36_method_15_code
def yX17_isBarred : MethodName := ⟨RX17, "isBarred", "(I)Z"⟩
def dkwX17_isBarred_4 : List UInt8 := [132, 3, 1, 167, 255, 165, 28, 172]
abbrev dktX17_isBarred_4 : List UInt8 := dkwX17_isBarred_4 ++ []
def dkwX17_isBarred_3 : List UInt8 := [160, 0, 13, 21, 5, 5, 160, 0, 7, 4, 167, 0, 4, 3, 128, 61, 132, 4, 1, 167, 255, 184]
abbrev dktX17_isBarred_3 : List UInt8 := dkwX17_isBarred_3 ++ dktX17_isBarred_4
def dkwX17_isBarred_2 : List UInt8 := [104, 21, 4, 96, 51, 54, 6, 28, 21, 6, 4, 160, 0, 9, 21, 5, 4, 159, 0, 15, 21, 6, 5]
abbrev dktX17_isBarred_2 : List UInt8 := dkwX17_isBarred_2 ++ dktX17_isBarred_3
def dkwX17_isBarred_1 : List UInt8 := [162, 0, 69, 27, 29, 122, 4, 126, 27, 21, 4, 122, 4, 126, 96, 54, 5, 42, 180, 0, 22, 16, 6, 29]
abbrev dktX17_isBarred_1 : List UInt8 := dkwX17_isBarred_1 ++ dktX17_isBarred_2
def dkwX17_isBarred_0 : List UInt8 := [3, 61, 3, 62, 29, 42, 180, 0, 75, 162, 0, 89, 29, 4, 96, 54, 4, 21, 4, 42, 180, 0, 75]
abbrev dktX17_isBarred_0 : List UInt8 := dkwX17_isBarred_0 ++ dktX17_isBarred_1
theorem dksX17_isBarred_0 : cX17_isBarred.data.toList.drop 0 = dktX17_isBarred_0 := by decide +kernel
theorem dksX17_isBarred_1 : cX17_isBarred.data.toList.drop 23 = dktX17_isBarred_1 := dk_seg dksX17_isBarred_0 23 rfl rfl
theorem dksX17_isBarred_2 : cX17_isBarred.data.toList.drop 47 = dktX17_isBarred_2 := dk_seg dksX17_isBarred_1 24 rfl rfl
theorem dksX17_isBarred_3 : cX17_isBarred.data.toList.drop 70 = dktX17_isBarred_3 := dk_seg dksX17_isBarred_2 23 rfl rfl
theorem dksX17_isBarred_4 : cX17_isBarred.data.toList.drop 92 = dktX17_isBarred_4 := dk_seg dksX17_isBarred_3 22 rfl rfl
theorem dX17_isBarred_0 : decode cX17_isBarred 0 = .ok (.iconst 0, 1) := dk_3 (dk_at dksX17_isBarred_0 0 rfl rfl)
theorem dX17_isBarred_1 : decode cX17_isBarred 1 = .ok (.istore_n 2, 1) := dk_61 (dk_at dksX17_isBarred_0 1 rfl rfl)
theorem dX17_isBarred_2 : decode cX17_isBarred 2 = .ok (.iconst 0, 1) := dk_3 (dk_at dksX17_isBarred_0 2 rfl rfl)
theorem dX17_isBarred_3 : decode cX17_isBarred 3 = .ok (.istore_n 3, 1) := dk_62 (dk_at dksX17_isBarred_0 3 rfl rfl)
theorem dX17_isBarred_4 : decode cX17_isBarred 4 = .ok (.iload_n 3, 1) := dk_29 (dk_at dksX17_isBarred_0 4 rfl rfl)
theorem dX17_isBarred_5 : decode cX17_isBarred 5 = .ok (.aload_n 0, 1) := dk_42 (dk_at dksX17_isBarred_0 5 rfl rfl)
theorem dX17_isBarred_6 : decode cX17_isBarred 6 = .ok (.getfield 75, 3) := dk_180 0 75 (dk_at dksX17_isBarred_0 6 rfl rfl)
theorem dX17_isBarred_9 : decode cX17_isBarred 9 = .ok (.if_icmp .ge 89, 3) := dk_162 0 89 (dk_at dksX17_isBarred_0 9 rfl rfl)
theorem dX17_isBarred_12 : decode cX17_isBarred 12 = .ok (.iload_n 3, 1) := dk_29 (dk_at dksX17_isBarred_0 12 rfl rfl)
theorem dX17_isBarred_13 : decode cX17_isBarred 13 = .ok (.iconst 1, 1) := dk_4 (dk_at dksX17_isBarred_0 13 rfl rfl)
theorem dX17_isBarred_14 : decode cX17_isBarred 14 = .ok (.iadd, 1) := dk_96 (dk_at dksX17_isBarred_0 14 rfl rfl)
theorem dX17_isBarred_15 : decode cX17_isBarred 15 = .ok (.istore 4, 2) := dk_54 4 (dk_at dksX17_isBarred_0 15 rfl rfl)
theorem dX17_isBarred_17 : decode cX17_isBarred 17 = .ok (.iload 4, 2) := dk_21 4 (dk_at dksX17_isBarred_0 17 rfl rfl)
theorem dX17_isBarred_19 : decode cX17_isBarred 19 = .ok (.aload_n 0, 1) := dk_42 (dk_at dksX17_isBarred_0 19 rfl rfl)
theorem dX17_isBarred_20 : decode cX17_isBarred 20 = .ok (.getfield 75, 3) := dk_180 0 75 (dk_at dksX17_isBarred_0 20 rfl rfl)
theorem dX17_isBarred_23 : decode cX17_isBarred 23 = .ok (.if_icmp .ge 69, 3) := dk_162 0 69 (dk_at dksX17_isBarred_1 0 rfl rfl)
theorem dX17_isBarred_26 : decode cX17_isBarred 26 = .ok (.iload_n 1, 1) := dk_27 (dk_at dksX17_isBarred_1 3 rfl rfl)
theorem dX17_isBarred_27 : decode cX17_isBarred 27 = .ok (.iload_n 3, 1) := dk_29 (dk_at dksX17_isBarred_1 4 rfl rfl)
theorem dX17_isBarred_28 : decode cX17_isBarred 28 = .ok (.ishr, 1) := dk_122 (dk_at dksX17_isBarred_1 5 rfl rfl)
theorem dX17_isBarred_29 : decode cX17_isBarred 29 = .ok (.iconst 1, 1) := dk_4 (dk_at dksX17_isBarred_1 6 rfl rfl)
theorem dX17_isBarred_30 : decode cX17_isBarred 30 = .ok (.iand, 1) := dk_126 (dk_at dksX17_isBarred_1 7 rfl rfl)
theorem dX17_isBarred_31 : decode cX17_isBarred 31 = .ok (.iload_n 1, 1) := dk_27 (dk_at dksX17_isBarred_1 8 rfl rfl)
theorem dX17_isBarred_32 : decode cX17_isBarred 32 = .ok (.iload 4, 2) := dk_21 4 (dk_at dksX17_isBarred_1 9 rfl rfl)
theorem dX17_isBarred_34 : decode cX17_isBarred 34 = .ok (.ishr, 1) := dk_122 (dk_at dksX17_isBarred_1 11 rfl rfl)
theorem dX17_isBarred_35 : decode cX17_isBarred 35 = .ok (.iconst 1, 1) := dk_4 (dk_at dksX17_isBarred_1 12 rfl rfl)
theorem dX17_isBarred_36 : decode cX17_isBarred 36 = .ok (.iand, 1) := dk_126 (dk_at dksX17_isBarred_1 13 rfl rfl)
theorem dX17_isBarred_37 : decode cX17_isBarred 37 = .ok (.iadd, 1) := dk_96 (dk_at dksX17_isBarred_1 14 rfl rfl)
theorem dX17_isBarred_38 : decode cX17_isBarred 38 = .ok (.istore 5, 2) := dk_54 5 (dk_at dksX17_isBarred_1 15 rfl rfl)
theorem dX17_isBarred_40 : decode cX17_isBarred 40 = .ok (.aload_n 0, 1) := dk_42 (dk_at dksX17_isBarred_1 17 rfl rfl)
theorem dX17_isBarred_41 : decode cX17_isBarred 41 = .ok (.getfield 22, 3) := dk_180 0 22 (dk_at dksX17_isBarred_1 18 rfl rfl)
theorem dX17_isBarred_44 : decode cX17_isBarred 44 = .ok (.bipush 6, 2) := dk_16 6 (dk_at dksX17_isBarred_1 21 rfl rfl)
theorem dX17_isBarred_46 : decode cX17_isBarred 46 = .ok (.iload_n 3, 1) := dk_29 (dk_at dksX17_isBarred_1 23 rfl rfl)
theorem dX17_isBarred_47 : decode cX17_isBarred 47 = .ok (.imul, 1) := dk_104 (dk_at dksX17_isBarred_2 0 rfl rfl)
theorem dX17_isBarred_48 : decode cX17_isBarred 48 = .ok (.iload 4, 2) := dk_21 4 (dk_at dksX17_isBarred_2 1 rfl rfl)
theorem dX17_isBarred_50 : decode cX17_isBarred 50 = .ok (.iadd, 1) := dk_96 (dk_at dksX17_isBarred_2 3 rfl rfl)
theorem dX17_isBarred_51 : decode cX17_isBarred 51 = .ok (.baload, 1) := dk_51 (dk_at dksX17_isBarred_2 4 rfl rfl)
theorem dX17_isBarred_52 : decode cX17_isBarred 52 = .ok (.istore 6, 2) := dk_54 6 (dk_at dksX17_isBarred_2 5 rfl rfl)
theorem dX17_isBarred_54 : decode cX17_isBarred 54 = .ok (.iload_n 2, 1) := dk_28 (dk_at dksX17_isBarred_2 7 rfl rfl)
theorem dX17_isBarred_55 : decode cX17_isBarred 55 = .ok (.iload 6, 2) := dk_21 6 (dk_at dksX17_isBarred_2 8 rfl rfl)
theorem dX17_isBarred_57 : decode cX17_isBarred 57 = .ok (.iconst 1, 1) := dk_4 (dk_at dksX17_isBarred_2 10 rfl rfl)
theorem dX17_isBarred_58 : decode cX17_isBarred 58 = .ok (.if_icmp .ne 9, 3) := dk_160 0 9 (dk_at dksX17_isBarred_2 11 rfl rfl)
theorem dX17_isBarred_61 : decode cX17_isBarred 61 = .ok (.iload 5, 2) := dk_21 5 (dk_at dksX17_isBarred_2 14 rfl rfl)
theorem dX17_isBarred_63 : decode cX17_isBarred 63 = .ok (.iconst 1, 1) := dk_4 (dk_at dksX17_isBarred_2 16 rfl rfl)
theorem dX17_isBarred_64 : decode cX17_isBarred 64 = .ok (.if_icmp .eq 15, 3) := dk_159 0 15 (dk_at dksX17_isBarred_2 17 rfl rfl)
theorem dX17_isBarred_67 : decode cX17_isBarred 67 = .ok (.iload 6, 2) := dk_21 6 (dk_at dksX17_isBarred_2 20 rfl rfl)
theorem dX17_isBarred_69 : decode cX17_isBarred 69 = .ok (.iconst 2, 1) := dk_5 (dk_at dksX17_isBarred_2 22 rfl rfl)
theorem dX17_isBarred_70 : decode cX17_isBarred 70 = .ok (.if_icmp .ne 13, 3) := dk_160 0 13 (dk_at dksX17_isBarred_3 0 rfl rfl)
theorem dX17_isBarred_73 : decode cX17_isBarred 73 = .ok (.iload 5, 2) := dk_21 5 (dk_at dksX17_isBarred_3 3 rfl rfl)
theorem dX17_isBarred_75 : decode cX17_isBarred 75 = .ok (.iconst 2, 1) := dk_5 (dk_at dksX17_isBarred_3 5 rfl rfl)
theorem dX17_isBarred_76 : decode cX17_isBarred 76 = .ok (.if_icmp .ne 7, 3) := dk_160 0 7 (dk_at dksX17_isBarred_3 6 rfl rfl)
theorem dX17_isBarred_79 : decode cX17_isBarred 79 = .ok (.iconst 1, 1) := dk_4 (dk_at dksX17_isBarred_3 9 rfl rfl)
theorem dX17_isBarred_80 : decode cX17_isBarred 80 = .ok (.goto 4, 3) := dk_167 0 4 (dk_at dksX17_isBarred_3 10 rfl rfl)
theorem dX17_isBarred_83 : decode cX17_isBarred 83 = .ok (.iconst 0, 1) := dk_3 (dk_at dksX17_isBarred_3 13 rfl rfl)
theorem dX17_isBarred_84 : decode cX17_isBarred 84 = .ok (.ior, 1) := dk_128 (dk_at dksX17_isBarred_3 14 rfl rfl)
theorem dX17_isBarred_85 : decode cX17_isBarred 85 = .ok (.istore_n 2, 1) := dk_61 (dk_at dksX17_isBarred_3 15 rfl rfl)
theorem dX17_isBarred_86 : decode cX17_isBarred 86 = .ok (.iinc 4 1, 3) := dk_132 4 1 (dk_at dksX17_isBarred_3 16 rfl rfl)
theorem dX17_isBarred_89 : decode cX17_isBarred 89 = .ok (.goto (-72), 3) := dk_167 255 184 (dk_at dksX17_isBarred_3 19 rfl rfl)
theorem dX17_isBarred_92 : decode cX17_isBarred 92 = .ok (.iinc 3 1, 3) := dk_132 3 1 (dk_at dksX17_isBarred_4 0 rfl rfl)
theorem dX17_isBarred_95 : decode cX17_isBarred 95 = .ok (.goto (-91), 3) := dk_167 255 165 (dk_at dksX17_isBarred_4 3 rfl rfl)
theorem dX17_isBarred_98 : decode cX17_isBarred 98 = .ok (.iload_n 2, 1) := dk_28 (dk_at dksX17_isBarred_4 6 rfl rfl)
theorem dX17_isBarred_99 : decode cX17_isBarred 99 = .ok (.ireturn, 1) := dk_172 (dk_at dksX17_isBarred_4 7 rfl rfl)
abbrev cX17_findCuts : ByteArray := prog_36_method_16_code
def yX17_findCuts : MethodName := ⟨RX17, "findCuts", "()V"⟩
def dkwX17_findCuts_2 : List UInt8 := [181, 0, 193, 27, 79, 132, 1, 1, 167, 255, 207, 177]
abbrev dktX17_findCuts_2 : List UInt8 := dkwX17_findCuts_2 ++ []
def dkwX17_findCuts_1 : List UInt8 := [42, 27, 182, 0, 119, 42, 180, 0, 93, 164, 0, 20, 42, 180, 0, 62, 42, 89, 180, 0, 193, 90, 4, 96]
abbrev dktX17_findCuts_1 : List UInt8 := dkwX17_findCuts_1 ++ dktX17_findCuts_2
def dkwX17_findCuts_0 : List UInt8 := [42, 3, 181, 0, 193, 4, 60, 27, 4, 42, 180, 0, 75, 120, 162, 0, 45, 42, 180, 0, 93, 158, 0, 38]
abbrev dktX17_findCuts_0 : List UInt8 := dkwX17_findCuts_0 ++ dktX17_findCuts_1
theorem dksX17_findCuts_0 : cX17_findCuts.data.toList.drop 0 = dktX17_findCuts_0 := by decide +kernel
theorem dksX17_findCuts_1 : cX17_findCuts.data.toList.drop 24 = dktX17_findCuts_1 := dk_seg dksX17_findCuts_0 24 rfl rfl
theorem dksX17_findCuts_2 : cX17_findCuts.data.toList.drop 48 = dktX17_findCuts_2 := dk_seg dksX17_findCuts_1 24 rfl rfl
theorem dX17_findCuts_0 : decode cX17_findCuts 0 = .ok (.aload_n 0, 1) := dk_42 (dk_at dksX17_findCuts_0 0 rfl rfl)
theorem dX17_findCuts_1 : decode cX17_findCuts 1 = .ok (.iconst 0, 1) := dk_3 (dk_at dksX17_findCuts_0 1 rfl rfl)
theorem dX17_findCuts_2 : decode cX17_findCuts 2 = .ok (.putfield 193, 3) := dk_181 0 193 (dk_at dksX17_findCuts_0 2 rfl rfl)
theorem dX17_findCuts_5 : decode cX17_findCuts 5 = .ok (.iconst 1, 1) := dk_4 (dk_at dksX17_findCuts_0 5 rfl rfl)
theorem dX17_findCuts_6 : decode cX17_findCuts 6 = .ok (.istore_n 1, 1) := dk_60 (dk_at dksX17_findCuts_0 6 rfl rfl)
theorem dX17_findCuts_7 : decode cX17_findCuts 7 = .ok (.iload_n 1, 1) := dk_27 (dk_at dksX17_findCuts_0 7 rfl rfl)
theorem dX17_findCuts_8 : decode cX17_findCuts 8 = .ok (.iconst 1, 1) := dk_4 (dk_at dksX17_findCuts_0 8 rfl rfl)
theorem dX17_findCuts_9 : decode cX17_findCuts 9 = .ok (.aload_n 0, 1) := dk_42 (dk_at dksX17_findCuts_0 9 rfl rfl)
theorem dX17_findCuts_10 : decode cX17_findCuts 10 = .ok (.getfield 75, 3) := dk_180 0 75 (dk_at dksX17_findCuts_0 10 rfl rfl)
theorem dX17_findCuts_13 : decode cX17_findCuts 13 = .ok (.ishl, 1) := dk_120 (dk_at dksX17_findCuts_0 13 rfl rfl)
theorem dX17_findCuts_14 : decode cX17_findCuts 14 = .ok (.if_icmp .ge 45, 3) := dk_162 0 45 (dk_at dksX17_findCuts_0 14 rfl rfl)
theorem dX17_findCuts_17 : decode cX17_findCuts 17 = .ok (.aload_n 0, 1) := dk_42 (dk_at dksX17_findCuts_0 17 rfl rfl)
theorem dX17_findCuts_18 : decode cX17_findCuts 18 = .ok (.getfield 93, 3) := dk_180 0 93 (dk_at dksX17_findCuts_0 18 rfl rfl)
theorem dX17_findCuts_21 : decode cX17_findCuts 21 = .ok (.ifCond .le 38, 3) := dk_158 0 38 (dk_at dksX17_findCuts_0 21 rfl rfl)
theorem dX17_findCuts_24 : decode cX17_findCuts 24 = .ok (.aload_n 0, 1) := dk_42 (dk_at dksX17_findCuts_1 0 rfl rfl)
theorem dX17_findCuts_25 : decode cX17_findCuts 25 = .ok (.iload_n 1, 1) := dk_27 (dk_at dksX17_findCuts_1 1 rfl rfl)
theorem dX17_findCuts_26 : decode cX17_findCuts 26 = .ok (.invokevirtual 119, 3) := dk_182 0 119 (dk_at dksX17_findCuts_1 2 rfl rfl)
theorem dX17_findCuts_29 : decode cX17_findCuts 29 = .ok (.aload_n 0, 1) := dk_42 (dk_at dksX17_findCuts_1 5 rfl rfl)
theorem dX17_findCuts_30 : decode cX17_findCuts 30 = .ok (.getfield 93, 3) := dk_180 0 93 (dk_at dksX17_findCuts_1 6 rfl rfl)
theorem dX17_findCuts_33 : decode cX17_findCuts 33 = .ok (.if_icmp .le 20, 3) := dk_164 0 20 (dk_at dksX17_findCuts_1 9 rfl rfl)
theorem dX17_findCuts_36 : decode cX17_findCuts 36 = .ok (.aload_n 0, 1) := dk_42 (dk_at dksX17_findCuts_1 12 rfl rfl)
theorem dX17_findCuts_37 : decode cX17_findCuts 37 = .ok (.getfield 62, 3) := dk_180 0 62 (dk_at dksX17_findCuts_1 13 rfl rfl)
theorem dX17_findCuts_40 : decode cX17_findCuts 40 = .ok (.aload_n 0, 1) := dk_42 (dk_at dksX17_findCuts_1 16 rfl rfl)
theorem dX17_findCuts_41 : decode cX17_findCuts 41 = .ok (.dup, 1) := dk_89 (dk_at dksX17_findCuts_1 17 rfl rfl)
theorem dX17_findCuts_42 : decode cX17_findCuts 42 = .ok (.getfield 193, 3) := dk_180 0 193 (dk_at dksX17_findCuts_1 18 rfl rfl)
theorem dX17_findCuts_45 : decode cX17_findCuts 45 = .ok (.dup_x1, 1) := dk_90 (dk_at dksX17_findCuts_1 21 rfl rfl)
theorem dX17_findCuts_46 : decode cX17_findCuts 46 = .ok (.iconst 1, 1) := dk_4 (dk_at dksX17_findCuts_1 22 rfl rfl)
theorem dX17_findCuts_47 : decode cX17_findCuts 47 = .ok (.iadd, 1) := dk_96 (dk_at dksX17_findCuts_1 23 rfl rfl)
theorem dX17_findCuts_48 : decode cX17_findCuts 48 = .ok (.putfield 193, 3) := dk_181 0 193 (dk_at dksX17_findCuts_2 0 rfl rfl)
theorem dX17_findCuts_51 : decode cX17_findCuts 51 = .ok (.iload_n 1, 1) := dk_27 (dk_at dksX17_findCuts_2 3 rfl rfl)
theorem dX17_findCuts_52 : decode cX17_findCuts 52 = .ok (.iastore, 1) := dk_79 (dk_at dksX17_findCuts_2 4 rfl rfl)
theorem dX17_findCuts_53 : decode cX17_findCuts 53 = .ok (.iinc 1 1, 3) := dk_132 1 1 (dk_at dksX17_findCuts_2 5 rfl rfl)
theorem dX17_findCuts_56 : decode cX17_findCuts 56 = .ok (.goto (-49), 3) := dk_167 255 207 (dk_at dksX17_findCuts_2 8 rfl rfl)
theorem dX17_findCuts_59 : decode cX17_findCuts 59 = .ok (.return_, 1) := dk_177 (dk_at dksX17_findCuts_2 11 rfl rfl)
abbrev cX17_solve : ByteArray := prog_36_method_19_code
def yX17_solve : MethodName := ⟨RX17, "solve", "(ILWasteHouse$RoundColumns$Ratio;)V"⟩
def dkwX17_solve_2 : List UInt8 := [132, 4, 1, 167, 255, 224, 42, 180, 0, 36, 44, 182, 0, 215, 44, 44, 180, 0, 218, 117, 181, 0, 218, 177]
abbrev dktX17_solve_2 : List UInt8 := dkwX17_solve_2 ++ []
def dkwX17_solve_1 : List UInt8 := [162, 0, 29, 42, 180, 0, 36, 29, 4, 21, 4, 96, 42, 180, 0, 53, 21, 4, 46, 133, 182, 0, 208]
abbrev dktX17_solve_1 : List UInt8 := dkwX17_solve_1 ++ dktX17_solve_2
def dkwX17_solve_0 : List UInt8 := [42, 27, 182, 0, 212, 42, 180, 0, 36, 9, 182, 0, 199, 62, 3, 54, 4, 21, 4, 42, 180, 0, 163]
abbrev dktX17_solve_0 : List UInt8 := dkwX17_solve_0 ++ dktX17_solve_1
theorem dksX17_solve_0 : cX17_solve.data.toList.drop 0 = dktX17_solve_0 := by decide +kernel
theorem dksX17_solve_1 : cX17_solve.data.toList.drop 23 = dktX17_solve_1 := dk_seg dksX17_solve_0 23 rfl rfl
theorem dksX17_solve_2 : cX17_solve.data.toList.drop 46 = dktX17_solve_2 := dk_seg dksX17_solve_1 23 rfl rfl
theorem dX17_solve_0 : decode cX17_solve 0 = .ok (.aload_n 0, 1) := dk_42 (dk_at dksX17_solve_0 0 rfl rfl)
theorem dX17_solve_1 : decode cX17_solve 1 = .ok (.iload_n 1, 1) := dk_27 (dk_at dksX17_solve_0 1 rfl rfl)
theorem dX17_solve_2 : decode cX17_solve 2 = .ok (.invokevirtual 212, 3) := dk_182 0 212 (dk_at dksX17_solve_0 2 rfl rfl)
theorem dX17_solve_5 : decode cX17_solve 5 = .ok (.aload_n 0, 1) := dk_42 (dk_at dksX17_solve_0 5 rfl rfl)
theorem dX17_solve_6 : decode cX17_solve 6 = .ok (.getfield 36, 3) := dk_180 0 36 (dk_at dksX17_solve_0 6 rfl rfl)
theorem dX17_solve_9 : decode cX17_solve 9 = .ok (.lconst 0, 1) := dk_9 (dk_at dksX17_solve_0 9 rfl rfl)
theorem dX17_solve_10 : decode cX17_solve 10 = .ok (.invokevirtual 199, 3) := dk_182 0 199 (dk_at dksX17_solve_0 10 rfl rfl)
theorem dX17_solve_13 : decode cX17_solve 13 = .ok (.istore_n 3, 1) := dk_62 (dk_at dksX17_solve_0 13 rfl rfl)
theorem dX17_solve_14 : decode cX17_solve 14 = .ok (.iconst 0, 1) := dk_3 (dk_at dksX17_solve_0 14 rfl rfl)
theorem dX17_solve_15 : decode cX17_solve 15 = .ok (.istore 4, 2) := dk_54 4 (dk_at dksX17_solve_0 15 rfl rfl)
theorem dX17_solve_17 : decode cX17_solve 17 = .ok (.iload 4, 2) := dk_21 4 (dk_at dksX17_solve_0 17 rfl rfl)
theorem dX17_solve_19 : decode cX17_solve 19 = .ok (.aload_n 0, 1) := dk_42 (dk_at dksX17_solve_0 19 rfl rfl)
theorem dX17_solve_20 : decode cX17_solve 20 = .ok (.getfield 163, 3) := dk_180 0 163 (dk_at dksX17_solve_0 20 rfl rfl)
theorem dX17_solve_23 : decode cX17_solve 23 = .ok (.if_icmp .ge 29, 3) := dk_162 0 29 (dk_at dksX17_solve_1 0 rfl rfl)
theorem dX17_solve_26 : decode cX17_solve 26 = .ok (.aload_n 0, 1) := dk_42 (dk_at dksX17_solve_1 3 rfl rfl)
theorem dX17_solve_27 : decode cX17_solve 27 = .ok (.getfield 36, 3) := dk_180 0 36 (dk_at dksX17_solve_1 4 rfl rfl)
theorem dX17_solve_30 : decode cX17_solve 30 = .ok (.iload_n 3, 1) := dk_29 (dk_at dksX17_solve_1 7 rfl rfl)
theorem dX17_solve_31 : decode cX17_solve 31 = .ok (.iconst 1, 1) := dk_4 (dk_at dksX17_solve_1 8 rfl rfl)
theorem dX17_solve_32 : decode cX17_solve 32 = .ok (.iload 4, 2) := dk_21 4 (dk_at dksX17_solve_1 9 rfl rfl)
theorem dX17_solve_34 : decode cX17_solve 34 = .ok (.iadd, 1) := dk_96 (dk_at dksX17_solve_1 11 rfl rfl)
theorem dX17_solve_35 : decode cX17_solve 35 = .ok (.aload_n 0, 1) := dk_42 (dk_at dksX17_solve_1 12 rfl rfl)
theorem dX17_solve_36 : decode cX17_solve 36 = .ok (.getfield 53, 3) := dk_180 0 53 (dk_at dksX17_solve_1 13 rfl rfl)
theorem dX17_solve_39 : decode cX17_solve 39 = .ok (.iload 4, 2) := dk_21 4 (dk_at dksX17_solve_1 16 rfl rfl)
theorem dX17_solve_41 : decode cX17_solve 41 = .ok (.iaload, 1) := dk_46 (dk_at dksX17_solve_1 18 rfl rfl)
theorem dX17_solve_42 : decode cX17_solve 42 = .ok (.i2l, 1) := dk_133 (dk_at dksX17_solve_1 19 rfl rfl)
theorem dX17_solve_43 : decode cX17_solve 43 = .ok (.invokevirtual 208, 3) := dk_182 0 208 (dk_at dksX17_solve_1 20 rfl rfl)
theorem dX17_solve_46 : decode cX17_solve 46 = .ok (.iinc 4 1, 3) := dk_132 4 1 (dk_at dksX17_solve_2 0 rfl rfl)
theorem dX17_solve_49 : decode cX17_solve 49 = .ok (.goto (-32), 3) := dk_167 255 224 (dk_at dksX17_solve_2 3 rfl rfl)
theorem dX17_solve_52 : decode cX17_solve 52 = .ok (.aload_n 0, 1) := dk_42 (dk_at dksX17_solve_2 6 rfl rfl)
theorem dX17_solve_53 : decode cX17_solve 53 = .ok (.getfield 36, 3) := dk_180 0 36 (dk_at dksX17_solve_2 7 rfl rfl)
theorem dX17_solve_56 : decode cX17_solve 56 = .ok (.aload_n 2, 1) := dk_44 (dk_at dksX17_solve_2 10 rfl rfl)
theorem dX17_solve_57 : decode cX17_solve 57 = .ok (.invokevirtual 215, 3) := dk_182 0 215 (dk_at dksX17_solve_2 11 rfl rfl)
theorem dX17_solve_60 : decode cX17_solve 60 = .ok (.aload_n 2, 1) := dk_44 (dk_at dksX17_solve_2 14 rfl rfl)
theorem dX17_solve_61 : decode cX17_solve 61 = .ok (.aload_n 2, 1) := dk_44 (dk_at dksX17_solve_2 15 rfl rfl)
theorem dX17_solve_62 : decode cX17_solve 62 = .ok (.getfield 218, 3) := dk_180 0 218 (dk_at dksX17_solve_2 16 rfl rfl)
theorem dX17_solve_65 : decode cX17_solve 65 = .ok (.lneg, 1) := dk_117 (dk_at dksX17_solve_2 19 rfl rfl)
theorem dX17_solve_66 : decode cX17_solve 66 = .ok (.putfield 218, 3) := dk_181 0 218 (dk_at dksX17_solve_2 20 rfl rfl)
theorem dX17_solve_69 : decode cX17_solve 69 = .ok (.return_, 1) := dk_177 (dk_at dksX17_solve_2 23 rfl rfl)
abbrev cX17_layOut : ByteArray := prog_36_method_17_code
def yX17_layOut : MethodName := ⟨RX17, "layOut", "(I)V"⟩
def dkwX17_layOut_8 : List UInt8 := [132, 3, 1, 167, 255, 233, 177]
abbrev dktX17_layOut_8 : List UInt8 := dkwX17_layOut_8 ++ []
def dkwX17_layOut_7 : List UInt8 := [61, 3, 62, 29, 42, 180, 0, 163, 162, 0, 21, 42, 180, 0, 36, 28, 4, 29, 96, 10, 182, 0, 208]
abbrev dktX17_layOut_7 : List UInt8 := dkwX17_layOut_7 ++ dktX17_layOut_8
def dkwX17_layOut_6 : List UInt8 := [132, 5, 1, 167, 255, 165, 132, 2, 1, 167, 255, 122, 42, 180, 0, 36, 42, 180, 0, 169, 133, 182, 0, 199]
abbrev dktX17_layOut_6 : List UInt8 := dkwX17_layOut_6 ++ dktX17_layOut_7
def dkwX17_layOut_5 : List UInt8 := [180, 0, 36, 21, 4, 4, 21, 5, 96, 21, 6, 153, 0, 9, 20, 0, 203, 167, 0, 4, 9, 182, 0, 208]
abbrev dktX17_layOut_5 : List UInt8 := dkwX17_layOut_5 ++ dktX17_layOut_6
def dkwX17_layOut_4 : List UInt8 := [180, 0, 36, 29, 4, 21, 5, 96, 21, 6, 153, 0, 7, 10, 167, 0, 4, 9, 182, 0, 208, 42]
abbrev dktX17_layOut_4 : List UInt8 := dkwX17_layOut_4 ++ dktX17_layOut_5
def dkwX17_layOut_3 : List UInt8 := [180, 0, 47, 21, 5, 46, 28, 122, 4, 126, 4, 160, 0, 7, 4, 167, 0, 4, 3, 54, 6, 42]
abbrev dktX17_layOut_3 : List UInt8 := dkwX17_layOut_3 ++ dktX17_layOut_4
def dkwX17_layOut_2 : List UInt8 := [3, 54, 5, 21, 5, 42, 180, 0, 163, 162, 0, 88, 42, 21, 5, 27, 182, 0, 205, 153, 0, 22, 42]
abbrev dktX17_layOut_2 : List UInt8 := dkwX17_layOut_2 ++ dktX17_layOut_3
def dkwX17_layOut_1 : List UInt8 := [159, 0, 121, 42, 180, 0, 36, 10, 182, 0, 199, 62, 42, 180, 0, 36, 20, 0, 203, 182, 0, 199, 54, 4]
abbrev dktX17_layOut_1 : List UInt8 := dkwX17_layOut_1 ++ dktX17_layOut_2
def dkwX17_layOut_0 : List UInt8 := [42, 180, 0, 36, 42, 180, 0, 163, 182, 0, 196, 3, 61, 28, 42, 180, 0, 172, 162, 0, 132, 28, 27]
abbrev dktX17_layOut_0 : List UInt8 := dkwX17_layOut_0 ++ dktX17_layOut_1
theorem dksX17_layOut_0 : cX17_layOut.data.toList.drop 0 = dktX17_layOut_0 := by decide +kernel
theorem dksX17_layOut_1 : cX17_layOut.data.toList.drop 23 = dktX17_layOut_1 := dk_seg dksX17_layOut_0 23 rfl rfl
theorem dksX17_layOut_2 : cX17_layOut.data.toList.drop 47 = dktX17_layOut_2 := dk_seg dksX17_layOut_1 24 rfl rfl
theorem dksX17_layOut_3 : cX17_layOut.data.toList.drop 70 = dktX17_layOut_3 := dk_seg dksX17_layOut_2 23 rfl rfl
theorem dksX17_layOut_4 : cX17_layOut.data.toList.drop 92 = dktX17_layOut_4 := dk_seg dksX17_layOut_3 22 rfl rfl
theorem dksX17_layOut_5 : cX17_layOut.data.toList.drop 114 = dktX17_layOut_5 := dk_seg dksX17_layOut_4 22 rfl rfl
theorem dksX17_layOut_6 : cX17_layOut.data.toList.drop 138 = dktX17_layOut_6 := dk_seg dksX17_layOut_5 24 rfl rfl
theorem dksX17_layOut_7 : cX17_layOut.data.toList.drop 162 = dktX17_layOut_7 := dk_seg dksX17_layOut_6 24 rfl rfl
theorem dksX17_layOut_8 : cX17_layOut.data.toList.drop 185 = dktX17_layOut_8 := dk_seg dksX17_layOut_7 23 rfl rfl
theorem dX17_layOut_0 : decode cX17_layOut 0 = .ok (.aload_n 0, 1) := dk_42 (dk_at dksX17_layOut_0 0 rfl rfl)
theorem dX17_layOut_1 : decode cX17_layOut 1 = .ok (.getfield 36, 3) := dk_180 0 36 (dk_at dksX17_layOut_0 1 rfl rfl)
theorem dX17_layOut_4 : decode cX17_layOut 4 = .ok (.aload_n 0, 1) := dk_42 (dk_at dksX17_layOut_0 4 rfl rfl)
theorem dX17_layOut_5 : decode cX17_layOut 5 = .ok (.getfield 163, 3) := dk_180 0 163 (dk_at dksX17_layOut_0 5 rfl rfl)
theorem dX17_layOut_8 : decode cX17_layOut 8 = .ok (.invokevirtual 196, 3) := dk_182 0 196 (dk_at dksX17_layOut_0 8 rfl rfl)
theorem dX17_layOut_11 : decode cX17_layOut 11 = .ok (.iconst 0, 1) := dk_3 (dk_at dksX17_layOut_0 11 rfl rfl)
theorem dX17_layOut_12 : decode cX17_layOut 12 = .ok (.istore_n 2, 1) := dk_61 (dk_at dksX17_layOut_0 12 rfl rfl)
theorem dX17_layOut_13 : decode cX17_layOut 13 = .ok (.iload_n 2, 1) := dk_28 (dk_at dksX17_layOut_0 13 rfl rfl)
theorem dX17_layOut_14 : decode cX17_layOut 14 = .ok (.aload_n 0, 1) := dk_42 (dk_at dksX17_layOut_0 14 rfl rfl)
theorem dX17_layOut_15 : decode cX17_layOut 15 = .ok (.getfield 172, 3) := dk_180 0 172 (dk_at dksX17_layOut_0 15 rfl rfl)
theorem dX17_layOut_18 : decode cX17_layOut 18 = .ok (.if_icmp .ge 132, 3) := dk_162 0 132 (dk_at dksX17_layOut_0 18 rfl rfl)
theorem dX17_layOut_21 : decode cX17_layOut 21 = .ok (.iload_n 2, 1) := dk_28 (dk_at dksX17_layOut_0 21 rfl rfl)
theorem dX17_layOut_22 : decode cX17_layOut 22 = .ok (.iload_n 1, 1) := dk_27 (dk_at dksX17_layOut_0 22 rfl rfl)
theorem dX17_layOut_23 : decode cX17_layOut 23 = .ok (.if_icmp .eq 121, 3) := dk_159 0 121 (dk_at dksX17_layOut_1 0 rfl rfl)
theorem dX17_layOut_26 : decode cX17_layOut 26 = .ok (.aload_n 0, 1) := dk_42 (dk_at dksX17_layOut_1 3 rfl rfl)
theorem dX17_layOut_27 : decode cX17_layOut 27 = .ok (.getfield 36, 3) := dk_180 0 36 (dk_at dksX17_layOut_1 4 rfl rfl)
theorem dX17_layOut_30 : decode cX17_layOut 30 = .ok (.lconst 1, 1) := dk_10 (dk_at dksX17_layOut_1 7 rfl rfl)
theorem dX17_layOut_31 : decode cX17_layOut 31 = .ok (.invokevirtual 199, 3) := dk_182 0 199 (dk_at dksX17_layOut_1 8 rfl rfl)
theorem dX17_layOut_34 : decode cX17_layOut 34 = .ok (.istore_n 3, 1) := dk_62 (dk_at dksX17_layOut_1 11 rfl rfl)
theorem dX17_layOut_35 : decode cX17_layOut 35 = .ok (.aload_n 0, 1) := dk_42 (dk_at dksX17_layOut_1 12 rfl rfl)
theorem dX17_layOut_36 : decode cX17_layOut 36 = .ok (.getfield 36, 3) := dk_180 0 36 (dk_at dksX17_layOut_1 13 rfl rfl)
theorem dX17_layOut_39 : decode cX17_layOut 39 = .ok (.ldc2_w 203, 3) := dk_20 0 203 (dk_at dksX17_layOut_1 16 rfl rfl)
theorem dX17_layOut_42 : decode cX17_layOut 42 = .ok (.invokevirtual 199, 3) := dk_182 0 199 (dk_at dksX17_layOut_1 19 rfl rfl)
theorem dX17_layOut_45 : decode cX17_layOut 45 = .ok (.istore 4, 2) := dk_54 4 (dk_at dksX17_layOut_1 22 rfl rfl)
theorem dX17_layOut_47 : decode cX17_layOut 47 = .ok (.iconst 0, 1) := dk_3 (dk_at dksX17_layOut_2 0 rfl rfl)
theorem dX17_layOut_48 : decode cX17_layOut 48 = .ok (.istore 5, 2) := dk_54 5 (dk_at dksX17_layOut_2 1 rfl rfl)
theorem dX17_layOut_50 : decode cX17_layOut 50 = .ok (.iload 5, 2) := dk_21 5 (dk_at dksX17_layOut_2 3 rfl rfl)
theorem dX17_layOut_52 : decode cX17_layOut 52 = .ok (.aload_n 0, 1) := dk_42 (dk_at dksX17_layOut_2 5 rfl rfl)
theorem dX17_layOut_53 : decode cX17_layOut 53 = .ok (.getfield 163, 3) := dk_180 0 163 (dk_at dksX17_layOut_2 6 rfl rfl)
theorem dX17_layOut_56 : decode cX17_layOut 56 = .ok (.if_icmp .ge 88, 3) := dk_162 0 88 (dk_at dksX17_layOut_2 9 rfl rfl)
theorem dX17_layOut_59 : decode cX17_layOut 59 = .ok (.aload_n 0, 1) := dk_42 (dk_at dksX17_layOut_2 12 rfl rfl)
theorem dX17_layOut_60 : decode cX17_layOut 60 = .ok (.iload 5, 2) := dk_21 5 (dk_at dksX17_layOut_2 13 rfl rfl)
theorem dX17_layOut_62 : decode cX17_layOut 62 = .ok (.iload_n 1, 1) := dk_27 (dk_at dksX17_layOut_2 15 rfl rfl)
theorem dX17_layOut_63 : decode cX17_layOut 63 = .ok (.invokevirtual 205, 3) := dk_182 0 205 (dk_at dksX17_layOut_2 16 rfl rfl)
theorem dX17_layOut_66 : decode cX17_layOut 66 = .ok (.ifCond .eq 22, 3) := dk_153 0 22 (dk_at dksX17_layOut_2 19 rfl rfl)
theorem dX17_layOut_69 : decode cX17_layOut 69 = .ok (.aload_n 0, 1) := dk_42 (dk_at dksX17_layOut_2 22 rfl rfl)
theorem dX17_layOut_70 : decode cX17_layOut 70 = .ok (.getfield 47, 3) := dk_180 0 47 (dk_at dksX17_layOut_3 0 rfl rfl)
theorem dX17_layOut_73 : decode cX17_layOut 73 = .ok (.iload 5, 2) := dk_21 5 (dk_at dksX17_layOut_3 3 rfl rfl)
theorem dX17_layOut_75 : decode cX17_layOut 75 = .ok (.iaload, 1) := dk_46 (dk_at dksX17_layOut_3 5 rfl rfl)
theorem dX17_layOut_76 : decode cX17_layOut 76 = .ok (.iload_n 2, 1) := dk_28 (dk_at dksX17_layOut_3 6 rfl rfl)
theorem dX17_layOut_77 : decode cX17_layOut 77 = .ok (.ishr, 1) := dk_122 (dk_at dksX17_layOut_3 7 rfl rfl)
theorem dX17_layOut_78 : decode cX17_layOut 78 = .ok (.iconst 1, 1) := dk_4 (dk_at dksX17_layOut_3 8 rfl rfl)
theorem dX17_layOut_79 : decode cX17_layOut 79 = .ok (.iand, 1) := dk_126 (dk_at dksX17_layOut_3 9 rfl rfl)
theorem dX17_layOut_80 : decode cX17_layOut 80 = .ok (.iconst 1, 1) := dk_4 (dk_at dksX17_layOut_3 10 rfl rfl)
theorem dX17_layOut_81 : decode cX17_layOut 81 = .ok (.if_icmp .ne 7, 3) := dk_160 0 7 (dk_at dksX17_layOut_3 11 rfl rfl)
theorem dX17_layOut_84 : decode cX17_layOut 84 = .ok (.iconst 1, 1) := dk_4 (dk_at dksX17_layOut_3 14 rfl rfl)
theorem dX17_layOut_85 : decode cX17_layOut 85 = .ok (.goto 4, 3) := dk_167 0 4 (dk_at dksX17_layOut_3 15 rfl rfl)
theorem dX17_layOut_88 : decode cX17_layOut 88 = .ok (.iconst 0, 1) := dk_3 (dk_at dksX17_layOut_3 18 rfl rfl)
theorem dX17_layOut_89 : decode cX17_layOut 89 = .ok (.istore 6, 2) := dk_54 6 (dk_at dksX17_layOut_3 19 rfl rfl)
theorem dX17_layOut_91 : decode cX17_layOut 91 = .ok (.aload_n 0, 1) := dk_42 (dk_at dksX17_layOut_3 21 rfl rfl)
theorem dX17_layOut_92 : decode cX17_layOut 92 = .ok (.getfield 36, 3) := dk_180 0 36 (dk_at dksX17_layOut_4 0 rfl rfl)
theorem dX17_layOut_95 : decode cX17_layOut 95 = .ok (.iload_n 3, 1) := dk_29 (dk_at dksX17_layOut_4 3 rfl rfl)
theorem dX17_layOut_96 : decode cX17_layOut 96 = .ok (.iconst 1, 1) := dk_4 (dk_at dksX17_layOut_4 4 rfl rfl)
theorem dX17_layOut_97 : decode cX17_layOut 97 = .ok (.iload 5, 2) := dk_21 5 (dk_at dksX17_layOut_4 5 rfl rfl)
theorem dX17_layOut_99 : decode cX17_layOut 99 = .ok (.iadd, 1) := dk_96 (dk_at dksX17_layOut_4 7 rfl rfl)
theorem dX17_layOut_100 : decode cX17_layOut 100 = .ok (.iload 6, 2) := dk_21 6 (dk_at dksX17_layOut_4 8 rfl rfl)
theorem dX17_layOut_102 : decode cX17_layOut 102 = .ok (.ifCond .eq 7, 3) := dk_153 0 7 (dk_at dksX17_layOut_4 10 rfl rfl)
theorem dX17_layOut_105 : decode cX17_layOut 105 = .ok (.lconst 1, 1) := dk_10 (dk_at dksX17_layOut_4 13 rfl rfl)
theorem dX17_layOut_106 : decode cX17_layOut 106 = .ok (.goto 4, 3) := dk_167 0 4 (dk_at dksX17_layOut_4 14 rfl rfl)
theorem dX17_layOut_109 : decode cX17_layOut 109 = .ok (.lconst 0, 1) := dk_9 (dk_at dksX17_layOut_4 17 rfl rfl)
theorem dX17_layOut_110 : decode cX17_layOut 110 = .ok (.invokevirtual 208, 3) := dk_182 0 208 (dk_at dksX17_layOut_4 18 rfl rfl)
theorem dX17_layOut_113 : decode cX17_layOut 113 = .ok (.aload_n 0, 1) := dk_42 (dk_at dksX17_layOut_4 21 rfl rfl)
theorem dX17_layOut_114 : decode cX17_layOut 114 = .ok (.getfield 36, 3) := dk_180 0 36 (dk_at dksX17_layOut_5 0 rfl rfl)
theorem dX17_layOut_117 : decode cX17_layOut 117 = .ok (.iload 4, 2) := dk_21 4 (dk_at dksX17_layOut_5 3 rfl rfl)
theorem dX17_layOut_119 : decode cX17_layOut 119 = .ok (.iconst 1, 1) := dk_4 (dk_at dksX17_layOut_5 5 rfl rfl)
theorem dX17_layOut_120 : decode cX17_layOut 120 = .ok (.iload 5, 2) := dk_21 5 (dk_at dksX17_layOut_5 6 rfl rfl)
theorem dX17_layOut_122 : decode cX17_layOut 122 = .ok (.iadd, 1) := dk_96 (dk_at dksX17_layOut_5 8 rfl rfl)
theorem dX17_layOut_123 : decode cX17_layOut 123 = .ok (.iload 6, 2) := dk_21 6 (dk_at dksX17_layOut_5 9 rfl rfl)
theorem dX17_layOut_125 : decode cX17_layOut 125 = .ok (.ifCond .eq 9, 3) := dk_153 0 9 (dk_at dksX17_layOut_5 11 rfl rfl)
theorem dX17_layOut_128 : decode cX17_layOut 128 = .ok (.ldc2_w 203, 3) := dk_20 0 203 (dk_at dksX17_layOut_5 14 rfl rfl)
theorem dX17_layOut_131 : decode cX17_layOut 131 = .ok (.goto 4, 3) := dk_167 0 4 (dk_at dksX17_layOut_5 17 rfl rfl)
theorem dX17_layOut_134 : decode cX17_layOut 134 = .ok (.lconst 0, 1) := dk_9 (dk_at dksX17_layOut_5 20 rfl rfl)
theorem dX17_layOut_135 : decode cX17_layOut 135 = .ok (.invokevirtual 208, 3) := dk_182 0 208 (dk_at dksX17_layOut_5 21 rfl rfl)
theorem dX17_layOut_138 : decode cX17_layOut 138 = .ok (.iinc 5 1, 3) := dk_132 5 1 (dk_at dksX17_layOut_6 0 rfl rfl)
theorem dX17_layOut_141 : decode cX17_layOut 141 = .ok (.goto (-91), 3) := dk_167 255 165 (dk_at dksX17_layOut_6 3 rfl rfl)
theorem dX17_layOut_144 : decode cX17_layOut 144 = .ok (.iinc 2 1, 3) := dk_132 2 1 (dk_at dksX17_layOut_6 6 rfl rfl)
theorem dX17_layOut_147 : decode cX17_layOut 147 = .ok (.goto (-134), 3) := dk_167 255 122 (dk_at dksX17_layOut_6 9 rfl rfl)
theorem dX17_layOut_150 : decode cX17_layOut 150 = .ok (.aload_n 0, 1) := dk_42 (dk_at dksX17_layOut_6 12 rfl rfl)
theorem dX17_layOut_151 : decode cX17_layOut 151 = .ok (.getfield 36, 3) := dk_180 0 36 (dk_at dksX17_layOut_6 13 rfl rfl)
theorem dX17_layOut_154 : decode cX17_layOut 154 = .ok (.aload_n 0, 1) := dk_42 (dk_at dksX17_layOut_6 16 rfl rfl)
theorem dX17_layOut_155 : decode cX17_layOut 155 = .ok (.getfield 169, 3) := dk_180 0 169 (dk_at dksX17_layOut_6 17 rfl rfl)
theorem dX17_layOut_158 : decode cX17_layOut 158 = .ok (.i2l, 1) := dk_133 (dk_at dksX17_layOut_6 20 rfl rfl)
theorem dX17_layOut_159 : decode cX17_layOut 159 = .ok (.invokevirtual 199, 3) := dk_182 0 199 (dk_at dksX17_layOut_6 21 rfl rfl)
theorem dX17_layOut_162 : decode cX17_layOut 162 = .ok (.istore_n 2, 1) := dk_61 (dk_at dksX17_layOut_7 0 rfl rfl)
theorem dX17_layOut_163 : decode cX17_layOut 163 = .ok (.iconst 0, 1) := dk_3 (dk_at dksX17_layOut_7 1 rfl rfl)
theorem dX17_layOut_164 : decode cX17_layOut 164 = .ok (.istore_n 3, 1) := dk_62 (dk_at dksX17_layOut_7 2 rfl rfl)
theorem dX17_layOut_165 : decode cX17_layOut 165 = .ok (.iload_n 3, 1) := dk_29 (dk_at dksX17_layOut_7 3 rfl rfl)
theorem dX17_layOut_166 : decode cX17_layOut 166 = .ok (.aload_n 0, 1) := dk_42 (dk_at dksX17_layOut_7 4 rfl rfl)
theorem dX17_layOut_167 : decode cX17_layOut 167 = .ok (.getfield 163, 3) := dk_180 0 163 (dk_at dksX17_layOut_7 5 rfl rfl)
theorem dX17_layOut_170 : decode cX17_layOut 170 = .ok (.if_icmp .ge 21, 3) := dk_162 0 21 (dk_at dksX17_layOut_7 8 rfl rfl)
theorem dX17_layOut_173 : decode cX17_layOut 173 = .ok (.aload_n 0, 1) := dk_42 (dk_at dksX17_layOut_7 11 rfl rfl)
theorem dX17_layOut_174 : decode cX17_layOut 174 = .ok (.getfield 36, 3) := dk_180 0 36 (dk_at dksX17_layOut_7 12 rfl rfl)
theorem dX17_layOut_177 : decode cX17_layOut 177 = .ok (.iload_n 2, 1) := dk_28 (dk_at dksX17_layOut_7 15 rfl rfl)
theorem dX17_layOut_178 : decode cX17_layOut 178 = .ok (.iconst 1, 1) := dk_4 (dk_at dksX17_layOut_7 16 rfl rfl)
theorem dX17_layOut_179 : decode cX17_layOut 179 = .ok (.iload_n 3, 1) := dk_29 (dk_at dksX17_layOut_7 17 rfl rfl)
theorem dX17_layOut_180 : decode cX17_layOut 180 = .ok (.iadd, 1) := dk_96 (dk_at dksX17_layOut_7 18 rfl rfl)
theorem dX17_layOut_181 : decode cX17_layOut 181 = .ok (.lconst 1, 1) := dk_10 (dk_at dksX17_layOut_7 19 rfl rfl)
theorem dX17_layOut_182 : decode cX17_layOut 182 = .ok (.invokevirtual 208, 3) := dk_182 0 208 (dk_at dksX17_layOut_7 20 rfl rfl)
theorem dX17_layOut_185 : decode cX17_layOut 185 = .ok (.iinc 3 1, 3) := dk_132 3 1 (dk_at dksX17_layOut_8 0 rfl rfl)
theorem dX17_layOut_188 : decode cX17_layOut 188 = .ok (.goto (-23), 3) := dk_167 255 233 (dk_at dksX17_layOut_8 3 rfl rfl)
theorem dX17_layOut_191 : decode cX17_layOut 191 = .ok (.return_, 1) := dk_177 (dk_at dksX17_layOut_8 6 rfl rfl)
abbrev cX17_isFree : ByteArray := prog_36_method_18_code
def yX17_isFree : MethodName := ⟨RX17, "isFree", "(II)Z"⟩
def dkwX17_isFree_1 : List UInt8 := [154, 0, 7, 4, 167, 0, 4, 3, 172]
abbrev dktX17_isFree_1 : List UInt8 := dkwX17_isFree_1 ++ []
def dkwX17_isFree_0 : List UInt8 := [42, 180, 0, 56, 27, 51, 154, 0, 25, 28, 2, 159, 0, 16, 42, 180, 0, 47, 27, 46, 28, 122, 4, 126]
abbrev dktX17_isFree_0 : List UInt8 := dkwX17_isFree_0 ++ dktX17_isFree_1
theorem dksX17_isFree_0 : cX17_isFree.data.toList.drop 0 = dktX17_isFree_0 := by decide +kernel
theorem dksX17_isFree_1 : cX17_isFree.data.toList.drop 24 = dktX17_isFree_1 := dk_seg dksX17_isFree_0 24 rfl rfl
theorem dX17_isFree_0 : decode cX17_isFree 0 = .ok (.aload_n 0, 1) := dk_42 (dk_at dksX17_isFree_0 0 rfl rfl)
theorem dX17_isFree_1 : decode cX17_isFree 1 = .ok (.getfield 56, 3) := dk_180 0 56 (dk_at dksX17_isFree_0 1 rfl rfl)
theorem dX17_isFree_4 : decode cX17_isFree 4 = .ok (.iload_n 1, 1) := dk_27 (dk_at dksX17_isFree_0 4 rfl rfl)
theorem dX17_isFree_5 : decode cX17_isFree 5 = .ok (.baload, 1) := dk_51 (dk_at dksX17_isFree_0 5 rfl rfl)
theorem dX17_isFree_6 : decode cX17_isFree 6 = .ok (.ifCond .ne 25, 3) := dk_154 0 25 (dk_at dksX17_isFree_0 6 rfl rfl)
theorem dX17_isFree_9 : decode cX17_isFree 9 = .ok (.iload_n 2, 1) := dk_28 (dk_at dksX17_isFree_0 9 rfl rfl)
theorem dX17_isFree_10 : decode cX17_isFree 10 = .ok (.iconst (-1), 1) := dk_2 (dk_at dksX17_isFree_0 10 rfl rfl)
theorem dX17_isFree_11 : decode cX17_isFree 11 = .ok (.if_icmp .eq 16, 3) := dk_159 0 16 (dk_at dksX17_isFree_0 11 rfl rfl)
theorem dX17_isFree_14 : decode cX17_isFree 14 = .ok (.aload_n 0, 1) := dk_42 (dk_at dksX17_isFree_0 14 rfl rfl)
theorem dX17_isFree_15 : decode cX17_isFree 15 = .ok (.getfield 47, 3) := dk_180 0 47 (dk_at dksX17_isFree_0 15 rfl rfl)
theorem dX17_isFree_18 : decode cX17_isFree 18 = .ok (.iload_n 1, 1) := dk_27 (dk_at dksX17_isFree_0 18 rfl rfl)
theorem dX17_isFree_19 : decode cX17_isFree 19 = .ok (.iaload, 1) := dk_46 (dk_at dksX17_isFree_0 19 rfl rfl)
theorem dX17_isFree_20 : decode cX17_isFree 20 = .ok (.iload_n 2, 1) := dk_28 (dk_at dksX17_isFree_0 20 rfl rfl)
theorem dX17_isFree_21 : decode cX17_isFree 21 = .ok (.ishr, 1) := dk_122 (dk_at dksX17_isFree_0 21 rfl rfl)
theorem dX17_isFree_22 : decode cX17_isFree 22 = .ok (.iconst 1, 1) := dk_4 (dk_at dksX17_isFree_0 22 rfl rfl)
theorem dX17_isFree_23 : decode cX17_isFree 23 = .ok (.iand, 1) := dk_126 (dk_at dksX17_isFree_0 23 rfl rfl)
theorem dX17_isFree_24 : decode cX17_isFree 24 = .ok (.ifCond .ne 7, 3) := dk_154 0 7 (dk_at dksX17_isFree_1 0 rfl rfl)
theorem dX17_isFree_27 : decode cX17_isFree 27 = .ok (.iconst 1, 1) := dk_4 (dk_at dksX17_isFree_1 3 rfl rfl)
theorem dX17_isFree_28 : decode cX17_isFree 28 = .ok (.goto 4, 3) := dk_167 0 4 (dk_at dksX17_isFree_1 4 rfl rfl)
theorem dX17_isFree_31 : decode cX17_isFree 31 = .ok (.iconst 0, 1) := dk_3 (dk_at dksX17_isFree_1 7 rfl rfl)
theorem dX17_isFree_32 : decode cX17_isFree 32 = .ok (.ireturn, 1) := dk_172 (dk_at dksX17_isFree_1 8 rfl rfl)
abbrev cX17_steps : ByteArray := prog_36_method_24_code
def yX17_steps : MethodName := ⟨RX17, "steps", "()I"⟩
theorem dX17_steps_0 : decode cX17_steps 0 = .ok (.aload_n 0, 1) := by decide +kernel
theorem dX17_steps_1 : decode cX17_steps 1 = .ok (.getfield 160, 3) := by decide +kernel
theorem dX17_steps_4 : decode cX17_steps 4 = .ok (.ireturn, 1) := by decide +kernel
abbrev cX17_columns : ByteArray := prog_36_method_25_code
def yX17_columns : MethodName := ⟨RX17, "columns", "()I"⟩
theorem dX17_columns_0 : decode cX17_columns 0 = .ok (.aload_n 0, 1) := by decide +kernel
theorem dX17_columns_1 : decode cX17_columns 1 = .ok (.getfield 163, 3) := by decide +kernel
theorem dX17_columns_4 : decode cX17_columns 4 = .ok (.ireturn, 1) := by decide +kernel
abbrev cX17_column : ByteArray := prog_36_method_26_code
def yX17_column : MethodName := ⟨RX17, "column", "(II)I"⟩
def dkwX17_column_2 : List UInt8 := [100, 104, 122, 16, 7, 126, 172]
abbrev dktX17_column_2 : List UInt8 := dkwX17_column_2 ++ []
def dkwX17_column_1 : List UInt8 := [161, 0, 5, 2, 172, 42, 180, 0, 50, 27, 46, 6, 42, 180, 0, 47, 27, 46, 184, 0, 236, 4, 100, 28]
abbrev dktX17_column_1 : List UInt8 := dkwX17_column_1 ++ dktX17_column_2
def dkwX17_column_0 : List UInt8 := [42, 27, 182, 0, 233, 153, 0, 20, 28, 155, 0, 16, 28, 42, 180, 0, 47, 27, 46, 184, 0, 236]
abbrev dktX17_column_0 : List UInt8 := dkwX17_column_0 ++ dktX17_column_1
theorem dksX17_column_0 : cX17_column.data.toList.drop 0 = dktX17_column_0 := by decide +kernel
theorem dksX17_column_1 : cX17_column.data.toList.drop 22 = dktX17_column_1 := dk_seg dksX17_column_0 22 rfl rfl
theorem dksX17_column_2 : cX17_column.data.toList.drop 46 = dktX17_column_2 := dk_seg dksX17_column_1 24 rfl rfl
theorem dX17_column_0 : decode cX17_column 0 = .ok (.aload_n 0, 1) := dk_42 (dk_at dksX17_column_0 0 rfl rfl)
theorem dX17_column_1 : decode cX17_column 1 = .ok (.iload_n 1, 1) := dk_27 (dk_at dksX17_column_0 1 rfl rfl)
theorem dX17_column_2 : decode cX17_column 2 = .ok (.invokevirtual 233, 3) := dk_182 0 233 (dk_at dksX17_column_0 2 rfl rfl)
theorem dX17_column_5 : decode cX17_column 5 = .ok (.ifCond .eq 20, 3) := dk_153 0 20 (dk_at dksX17_column_0 5 rfl rfl)
theorem dX17_column_8 : decode cX17_column 8 = .ok (.iload_n 2, 1) := dk_28 (dk_at dksX17_column_0 8 rfl rfl)
theorem dX17_column_9 : decode cX17_column 9 = .ok (.ifCond .lt 16, 3) := dk_155 0 16 (dk_at dksX17_column_0 9 rfl rfl)
theorem dX17_column_12 : decode cX17_column 12 = .ok (.iload_n 2, 1) := dk_28 (dk_at dksX17_column_0 12 rfl rfl)
theorem dX17_column_13 : decode cX17_column 13 = .ok (.aload_n 0, 1) := dk_42 (dk_at dksX17_column_0 13 rfl rfl)
theorem dX17_column_14 : decode cX17_column 14 = .ok (.getfield 47, 3) := dk_180 0 47 (dk_at dksX17_column_0 14 rfl rfl)
theorem dX17_column_17 : decode cX17_column 17 = .ok (.iload_n 1, 1) := dk_27 (dk_at dksX17_column_0 17 rfl rfl)
theorem dX17_column_18 : decode cX17_column 18 = .ok (.iaload, 1) := dk_46 (dk_at dksX17_column_0 18 rfl rfl)
theorem dX17_column_19 : decode cX17_column 19 = .ok (.invokestatic 236, 3) := dk_184 0 236 (dk_at dksX17_column_0 19 rfl rfl)
theorem dX17_column_22 : decode cX17_column 22 = .ok (.if_icmp .lt 5, 3) := dk_161 0 5 (dk_at dksX17_column_1 0 rfl rfl)
theorem dX17_column_25 : decode cX17_column 25 = .ok (.iconst (-1), 1) := dk_2 (dk_at dksX17_column_1 3 rfl rfl)
theorem dX17_column_26 : decode cX17_column 26 = .ok (.ireturn, 1) := dk_172 (dk_at dksX17_column_1 4 rfl rfl)
theorem dX17_column_27 : decode cX17_column 27 = .ok (.aload_n 0, 1) := dk_42 (dk_at dksX17_column_1 5 rfl rfl)
theorem dX17_column_28 : decode cX17_column 28 = .ok (.getfield 50, 3) := dk_180 0 50 (dk_at dksX17_column_1 6 rfl rfl)
theorem dX17_column_31 : decode cX17_column 31 = .ok (.iload_n 1, 1) := dk_27 (dk_at dksX17_column_1 9 rfl rfl)
theorem dX17_column_32 : decode cX17_column 32 = .ok (.iaload, 1) := dk_46 (dk_at dksX17_column_1 10 rfl rfl)
theorem dX17_column_33 : decode cX17_column 33 = .ok (.iconst 3, 1) := dk_6 (dk_at dksX17_column_1 11 rfl rfl)
theorem dX17_column_34 : decode cX17_column 34 = .ok (.aload_n 0, 1) := dk_42 (dk_at dksX17_column_1 12 rfl rfl)
theorem dX17_column_35 : decode cX17_column 35 = .ok (.getfield 47, 3) := dk_180 0 47 (dk_at dksX17_column_1 13 rfl rfl)
theorem dX17_column_38 : decode cX17_column 38 = .ok (.iload_n 1, 1) := dk_27 (dk_at dksX17_column_1 16 rfl rfl)
theorem dX17_column_39 : decode cX17_column 39 = .ok (.iaload, 1) := dk_46 (dk_at dksX17_column_1 17 rfl rfl)
theorem dX17_column_40 : decode cX17_column 40 = .ok (.invokestatic 236, 3) := dk_184 0 236 (dk_at dksX17_column_1 18 rfl rfl)
theorem dX17_column_43 : decode cX17_column 43 = .ok (.iconst 1, 1) := dk_4 (dk_at dksX17_column_1 21 rfl rfl)
theorem dX17_column_44 : decode cX17_column 44 = .ok (.isub, 1) := dk_100 (dk_at dksX17_column_1 22 rfl rfl)
theorem dX17_column_45 : decode cX17_column 45 = .ok (.iload_n 2, 1) := dk_28 (dk_at dksX17_column_1 23 rfl rfl)
theorem dX17_column_46 : decode cX17_column 46 = .ok (.isub, 1) := dk_100 (dk_at dksX17_column_2 0 rfl rfl)
theorem dX17_column_47 : decode cX17_column 47 = .ok (.imul, 1) := dk_104 (dk_at dksX17_column_2 1 rfl rfl)
theorem dX17_column_48 : decode cX17_column 48 = .ok (.ishr, 1) := dk_122 (dk_at dksX17_column_2 2 rfl rfl)
theorem dX17_column_49 : decode cX17_column 49 = .ok (.bipush 7, 2) := dk_16 7 (dk_at dksX17_column_2 3 rfl rfl)
theorem dX17_column_51 : decode cX17_column 51 = .ok (.iand, 1) := dk_126 (dk_at dksX17_column_2 5 rfl rfl)
theorem dX17_column_52 : decode cX17_column 52 = .ok (.ireturn, 1) := dk_172 (dk_at dksX17_column_2 6 rfl rfl)
abbrev cX17_bound : ByteArray := prog_36_method_20_code
def yX17_bound : MethodName := ⟨RX17, "bound", "(I)J"⟩
def dkwX17_bound_0 : List UInt8 := [42, 180, 0, 156, 153, 0, 14, 42, 180, 0, 68, 27, 182, 0, 222, 167, 0, 4, 9, 173]
abbrev dktX17_bound_0 : List UInt8 := dkwX17_bound_0 ++ []
theorem dksX17_bound_0 : cX17_bound.data.toList.drop 0 = dktX17_bound_0 := by decide +kernel
theorem dX17_bound_0 : decode cX17_bound 0 = .ok (.aload_n 0, 1) := dk_42 (dk_at dksX17_bound_0 0 rfl rfl)
theorem dX17_bound_1 : decode cX17_bound 1 = .ok (.getfield 156, 3) := dk_180 0 156 (dk_at dksX17_bound_0 1 rfl rfl)
theorem dX17_bound_4 : decode cX17_bound 4 = .ok (.ifCond .eq 14, 3) := dk_153 0 14 (dk_at dksX17_bound_0 4 rfl rfl)
theorem dX17_bound_7 : decode cX17_bound 7 = .ok (.aload_n 0, 1) := dk_42 (dk_at dksX17_bound_0 7 rfl rfl)
theorem dX17_bound_8 : decode cX17_bound 8 = .ok (.getfield 68, 3) := dk_180 0 68 (dk_at dksX17_bound_0 8 rfl rfl)
theorem dX17_bound_11 : decode cX17_bound 11 = .ok (.iload_n 1, 1) := dk_27 (dk_at dksX17_bound_0 11 rfl rfl)
theorem dX17_bound_12 : decode cX17_bound 12 = .ok (.invokevirtual 222, 3) := dk_182 0 222 (dk_at dksX17_bound_0 12 rfl rfl)
theorem dX17_bound_15 : decode cX17_bound 15 = .ok (.goto 4, 3) := dk_167 0 4 (dk_at dksX17_bound_0 15 rfl rfl)
theorem dX17_bound_18 : decode cX17_bound 18 = .ok (.lconst 0, 1) := dk_9 (dk_at dksX17_bound_0 18 rfl rfl)
theorem dX17_bound_19 : decode cX17_bound 19 = .ok (.lreturn, 1) := dk_173 (dk_at dksX17_bound_0 19 rfl rfl)
abbrev cX17_dual : ByteArray := prog_36_method_21_code
def yX17_dual : MethodName := ⟨RX17, "dual", "(II)J"⟩
def dkwX17_dual_4 : List UInt8 := [180, 0, 227, 42, 180, 0, 72, 180, 0, 227, 105, 182, 0, 230, 42, 180, 0, 72, 28, 182, 0, 222, 173]
abbrev dktX17_dual_4 : List UInt8 := dkwX17_dual_4 ++ []
def dkwX17_dual_3 : List UInt8 := [180, 0, 227, 105, 42, 180, 0, 72, 180, 0, 218, 42, 180, 0, 68, 180, 0, 227, 105, 101, 42, 180, 0, 68]
abbrev dktX17_dual_3 : List UInt8 := dkwX17_dual_3 ++ dktX17_dual_4
def dkwX17_dual_2 : List UInt8 := [180, 0, 72, 182, 0, 186, 153, 0, 56, 42, 180, 0, 72, 42, 180, 0, 68, 180, 0, 218, 42, 180, 0, 72]
abbrev dktX17_dual_2 : List UInt8 := dkwX17_dual_2 ++ dktX17_dual_3
def dkwX17_dual_1 : List UInt8 := [162, 0, 85, 42, 180, 0, 68, 182, 0, 186, 153, 0, 75, 42, 27, 42, 180, 0, 72, 182, 0, 182, 42]
abbrev dktX17_dual_1 : List UInt8 := dkwX17_dual_1 ++ dktX17_dual_2
def dkwX17_dual_0 : List UInt8 := [42, 180, 0, 72, 182, 0, 226, 42, 180, 0, 156, 153, 0, 97, 27, 155, 0, 93, 27, 42, 180, 0, 172]
abbrev dktX17_dual_0 : List UInt8 := dkwX17_dual_0 ++ dktX17_dual_1
theorem dksX17_dual_0 : cX17_dual.data.toList.drop 0 = dktX17_dual_0 := by decide +kernel
theorem dksX17_dual_1 : cX17_dual.data.toList.drop 23 = dktX17_dual_1 := dk_seg dksX17_dual_0 23 rfl rfl
theorem dksX17_dual_2 : cX17_dual.data.toList.drop 46 = dktX17_dual_2 := dk_seg dksX17_dual_1 23 rfl rfl
theorem dksX17_dual_3 : cX17_dual.data.toList.drop 70 = dktX17_dual_3 := dk_seg dksX17_dual_2 24 rfl rfl
theorem dksX17_dual_4 : cX17_dual.data.toList.drop 94 = dktX17_dual_4 := dk_seg dksX17_dual_3 24 rfl rfl
theorem dX17_dual_0 : decode cX17_dual 0 = .ok (.aload_n 0, 1) := dk_42 (dk_at dksX17_dual_0 0 rfl rfl)
theorem dX17_dual_1 : decode cX17_dual 1 = .ok (.getfield 72, 3) := dk_180 0 72 (dk_at dksX17_dual_0 1 rfl rfl)
theorem dX17_dual_4 : decode cX17_dual 4 = .ok (.invokevirtual 226, 3) := dk_182 0 226 (dk_at dksX17_dual_0 4 rfl rfl)
theorem dX17_dual_7 : decode cX17_dual 7 = .ok (.aload_n 0, 1) := dk_42 (dk_at dksX17_dual_0 7 rfl rfl)
theorem dX17_dual_8 : decode cX17_dual 8 = .ok (.getfield 156, 3) := dk_180 0 156 (dk_at dksX17_dual_0 8 rfl rfl)
theorem dX17_dual_11 : decode cX17_dual 11 = .ok (.ifCond .eq 97, 3) := dk_153 0 97 (dk_at dksX17_dual_0 11 rfl rfl)
theorem dX17_dual_14 : decode cX17_dual 14 = .ok (.iload_n 1, 1) := dk_27 (dk_at dksX17_dual_0 14 rfl rfl)
theorem dX17_dual_15 : decode cX17_dual 15 = .ok (.ifCond .lt 93, 3) := dk_155 0 93 (dk_at dksX17_dual_0 15 rfl rfl)
theorem dX17_dual_18 : decode cX17_dual 18 = .ok (.iload_n 1, 1) := dk_27 (dk_at dksX17_dual_0 18 rfl rfl)
theorem dX17_dual_19 : decode cX17_dual 19 = .ok (.aload_n 0, 1) := dk_42 (dk_at dksX17_dual_0 19 rfl rfl)
theorem dX17_dual_20 : decode cX17_dual 20 = .ok (.getfield 172, 3) := dk_180 0 172 (dk_at dksX17_dual_0 20 rfl rfl)
theorem dX17_dual_23 : decode cX17_dual 23 = .ok (.if_icmp .ge 85, 3) := dk_162 0 85 (dk_at dksX17_dual_1 0 rfl rfl)
theorem dX17_dual_26 : decode cX17_dual 26 = .ok (.aload_n 0, 1) := dk_42 (dk_at dksX17_dual_1 3 rfl rfl)
theorem dX17_dual_27 : decode cX17_dual 27 = .ok (.getfield 68, 3) := dk_180 0 68 (dk_at dksX17_dual_1 4 rfl rfl)
theorem dX17_dual_30 : decode cX17_dual 30 = .ok (.invokevirtual 186, 3) := dk_182 0 186 (dk_at dksX17_dual_1 7 rfl rfl)
theorem dX17_dual_33 : decode cX17_dual 33 = .ok (.ifCond .eq 75, 3) := dk_153 0 75 (dk_at dksX17_dual_1 10 rfl rfl)
theorem dX17_dual_36 : decode cX17_dual 36 = .ok (.aload_n 0, 1) := dk_42 (dk_at dksX17_dual_1 13 rfl rfl)
theorem dX17_dual_37 : decode cX17_dual 37 = .ok (.iload_n 1, 1) := dk_27 (dk_at dksX17_dual_1 14 rfl rfl)
theorem dX17_dual_38 : decode cX17_dual 38 = .ok (.aload_n 0, 1) := dk_42 (dk_at dksX17_dual_1 15 rfl rfl)
theorem dX17_dual_39 : decode cX17_dual 39 = .ok (.getfield 72, 3) := dk_180 0 72 (dk_at dksX17_dual_1 16 rfl rfl)
theorem dX17_dual_42 : decode cX17_dual 42 = .ok (.invokevirtual 182, 3) := dk_182 0 182 (dk_at dksX17_dual_1 19 rfl rfl)
theorem dX17_dual_45 : decode cX17_dual 45 = .ok (.aload_n 0, 1) := dk_42 (dk_at dksX17_dual_1 22 rfl rfl)
theorem dX17_dual_46 : decode cX17_dual 46 = .ok (.getfield 72, 3) := dk_180 0 72 (dk_at dksX17_dual_2 0 rfl rfl)
theorem dX17_dual_49 : decode cX17_dual 49 = .ok (.invokevirtual 186, 3) := dk_182 0 186 (dk_at dksX17_dual_2 3 rfl rfl)
theorem dX17_dual_52 : decode cX17_dual 52 = .ok (.ifCond .eq 56, 3) := dk_153 0 56 (dk_at dksX17_dual_2 6 rfl rfl)
theorem dX17_dual_55 : decode cX17_dual 55 = .ok (.aload_n 0, 1) := dk_42 (dk_at dksX17_dual_2 9 rfl rfl)
theorem dX17_dual_56 : decode cX17_dual 56 = .ok (.getfield 72, 3) := dk_180 0 72 (dk_at dksX17_dual_2 10 rfl rfl)
theorem dX17_dual_59 : decode cX17_dual 59 = .ok (.aload_n 0, 1) := dk_42 (dk_at dksX17_dual_2 13 rfl rfl)
theorem dX17_dual_60 : decode cX17_dual 60 = .ok (.getfield 68, 3) := dk_180 0 68 (dk_at dksX17_dual_2 14 rfl rfl)
theorem dX17_dual_63 : decode cX17_dual 63 = .ok (.getfield 218, 3) := dk_180 0 218 (dk_at dksX17_dual_2 17 rfl rfl)
theorem dX17_dual_66 : decode cX17_dual 66 = .ok (.aload_n 0, 1) := dk_42 (dk_at dksX17_dual_2 20 rfl rfl)
theorem dX17_dual_67 : decode cX17_dual 67 = .ok (.getfield 72, 3) := dk_180 0 72 (dk_at dksX17_dual_2 21 rfl rfl)
theorem dX17_dual_70 : decode cX17_dual 70 = .ok (.getfield 227, 3) := dk_180 0 227 (dk_at dksX17_dual_3 0 rfl rfl)
theorem dX17_dual_73 : decode cX17_dual 73 = .ok (.lmul, 1) := dk_105 (dk_at dksX17_dual_3 3 rfl rfl)
theorem dX17_dual_74 : decode cX17_dual 74 = .ok (.aload_n 0, 1) := dk_42 (dk_at dksX17_dual_3 4 rfl rfl)
theorem dX17_dual_75 : decode cX17_dual 75 = .ok (.getfield 72, 3) := dk_180 0 72 (dk_at dksX17_dual_3 5 rfl rfl)
theorem dX17_dual_78 : decode cX17_dual 78 = .ok (.getfield 218, 3) := dk_180 0 218 (dk_at dksX17_dual_3 8 rfl rfl)
theorem dX17_dual_81 : decode cX17_dual 81 = .ok (.aload_n 0, 1) := dk_42 (dk_at dksX17_dual_3 11 rfl rfl)
theorem dX17_dual_82 : decode cX17_dual 82 = .ok (.getfield 68, 3) := dk_180 0 68 (dk_at dksX17_dual_3 12 rfl rfl)
theorem dX17_dual_85 : decode cX17_dual 85 = .ok (.getfield 227, 3) := dk_180 0 227 (dk_at dksX17_dual_3 15 rfl rfl)
theorem dX17_dual_88 : decode cX17_dual 88 = .ok (.lmul, 1) := dk_105 (dk_at dksX17_dual_3 18 rfl rfl)
theorem dX17_dual_89 : decode cX17_dual 89 = .ok (.lsub, 1) := dk_101 (dk_at dksX17_dual_3 19 rfl rfl)
theorem dX17_dual_90 : decode cX17_dual 90 = .ok (.aload_n 0, 1) := dk_42 (dk_at dksX17_dual_3 20 rfl rfl)
theorem dX17_dual_91 : decode cX17_dual 91 = .ok (.getfield 68, 3) := dk_180 0 68 (dk_at dksX17_dual_3 21 rfl rfl)
theorem dX17_dual_94 : decode cX17_dual 94 = .ok (.getfield 227, 3) := dk_180 0 227 (dk_at dksX17_dual_4 0 rfl rfl)
theorem dX17_dual_97 : decode cX17_dual 97 = .ok (.aload_n 0, 1) := dk_42 (dk_at dksX17_dual_4 3 rfl rfl)
theorem dX17_dual_98 : decode cX17_dual 98 = .ok (.getfield 72, 3) := dk_180 0 72 (dk_at dksX17_dual_4 4 rfl rfl)
theorem dX17_dual_101 : decode cX17_dual 101 = .ok (.getfield 227, 3) := dk_180 0 227 (dk_at dksX17_dual_4 7 rfl rfl)
theorem dX17_dual_104 : decode cX17_dual 104 = .ok (.lmul, 1) := dk_105 (dk_at dksX17_dual_4 10 rfl rfl)
theorem dX17_dual_105 : decode cX17_dual 105 = .ok (.invokevirtual 230, 3) := dk_182 0 230 (dk_at dksX17_dual_4 11 rfl rfl)
theorem dX17_dual_108 : decode cX17_dual 108 = .ok (.aload_n 0, 1) := dk_42 (dk_at dksX17_dual_4 14 rfl rfl)
theorem dX17_dual_109 : decode cX17_dual 109 = .ok (.getfield 72, 3) := dk_180 0 72 (dk_at dksX17_dual_4 15 rfl rfl)
theorem dX17_dual_112 : decode cX17_dual 112 = .ok (.iload_n 2, 1) := dk_28 (dk_at dksX17_dual_4 18 rfl rfl)
theorem dX17_dual_113 : decode cX17_dual 113 = .ok (.invokevirtual 222, 3) := dk_182 0 222 (dk_at dksX17_dual_4 19 rfl rfl)
theorem dX17_dual_116 : decode cX17_dual 116 = .ok (.lreturn, 1) := dk_173 (dk_at dksX17_dual_4 22 rfl rfl)
abbrev cX17_used : ByteArray := prog_36_method_23_code
def yX17_used : MethodName := ⟨RX17, "used", "(II)J"⟩
def dkwX17_used_6 : List UInt8 := [182, 0, 208, 42, 180, 0, 36, 42, 180, 0, 72, 182, 0, 215, 42, 180, 0, 72, 28, 182, 0, 222, 173]
abbrev dktX17_used_6 : List UInt8 := dkwX17_used_6 ++ []
def dkwX17_used_5 : List UInt8 := [42, 180, 0, 36, 9, 182, 0, 199, 54, 4, 42, 180, 0, 36, 21, 4, 4, 27, 96, 20, 0, 203]
abbrev dktX17_used_5 : List UInt8 := dkwX17_used_5 ++ dktX17_used_6
def dkwX17_used_4 : List UInt8 := [180, 0, 68, 180, 0, 227, 42, 180, 0, 53, 21, 4, 46, 133, 105, 182, 0, 208, 132, 4, 1, 167, 255, 202]
abbrev dktX17_used_4 : List UInt8 := dkwX17_used_4 ++ dktX17_used_5
def dkwX17_used_3 : List UInt8 := [180, 0, 36, 29, 4, 21, 4, 96, 42, 180, 0, 56, 21, 4, 51, 153, 0, 7, 9, 167, 0, 19, 42]
abbrev dktX17_used_3 : List UInt8 := dkwX17_used_3 ++ dktX17_used_4
def dkwX17_used_2 : List UInt8 := [180, 0, 68, 180, 0, 218, 182, 0, 199, 62, 3, 54, 4, 21, 4, 42, 180, 0, 163, 162, 0, 51, 42]
abbrev dktX17_used_2 : List UInt8 := dkwX17_used_2 ++ dktX17_used_3
def dkwX17_used_1 : List UInt8 := [153, 0, 128, 42, 180, 0, 56, 27, 51, 154, 0, 119, 42, 2, 182, 0, 212, 42, 180, 0, 36, 42]
abbrev dktX17_used_1 : List UInt8 := dkwX17_used_1 ++ dktX17_used_2
def dkwX17_used_0 : List UInt8 := [42, 180, 0, 72, 182, 0, 226, 42, 27, 182, 0, 233, 153, 0, 138, 42, 180, 0, 68, 182, 0, 186]
abbrev dktX17_used_0 : List UInt8 := dkwX17_used_0 ++ dktX17_used_1
theorem dksX17_used_0 : cX17_used.data.toList.drop 0 = dktX17_used_0 := by decide +kernel
theorem dksX17_used_1 : cX17_used.data.toList.drop 22 = dktX17_used_1 := dk_seg dksX17_used_0 22 rfl rfl
theorem dksX17_used_2 : cX17_used.data.toList.drop 44 = dktX17_used_2 := dk_seg dksX17_used_1 22 rfl rfl
theorem dksX17_used_3 : cX17_used.data.toList.drop 67 = dktX17_used_3 := dk_seg dksX17_used_2 23 rfl rfl
theorem dksX17_used_4 : cX17_used.data.toList.drop 90 = dktX17_used_4 := dk_seg dksX17_used_3 23 rfl rfl
theorem dksX17_used_5 : cX17_used.data.toList.drop 114 = dktX17_used_5 := dk_seg dksX17_used_4 24 rfl rfl
theorem dksX17_used_6 : cX17_used.data.toList.drop 136 = dktX17_used_6 := dk_seg dksX17_used_5 22 rfl rfl
theorem dX17_used_0 : decode cX17_used 0 = .ok (.aload_n 0, 1) := dk_42 (dk_at dksX17_used_0 0 rfl rfl)
theorem dX17_used_1 : decode cX17_used 1 = .ok (.getfield 72, 3) := dk_180 0 72 (dk_at dksX17_used_0 1 rfl rfl)
theorem dX17_used_4 : decode cX17_used 4 = .ok (.invokevirtual 226, 3) := dk_182 0 226 (dk_at dksX17_used_0 4 rfl rfl)
theorem dX17_used_7 : decode cX17_used 7 = .ok (.aload_n 0, 1) := dk_42 (dk_at dksX17_used_0 7 rfl rfl)
theorem dX17_used_8 : decode cX17_used 8 = .ok (.iload_n 1, 1) := dk_27 (dk_at dksX17_used_0 8 rfl rfl)
theorem dX17_used_9 : decode cX17_used 9 = .ok (.invokevirtual 233, 3) := dk_182 0 233 (dk_at dksX17_used_0 9 rfl rfl)
theorem dX17_used_12 : decode cX17_used 12 = .ok (.ifCond .eq 138, 3) := dk_153 0 138 (dk_at dksX17_used_0 12 rfl rfl)
theorem dX17_used_15 : decode cX17_used 15 = .ok (.aload_n 0, 1) := dk_42 (dk_at dksX17_used_0 15 rfl rfl)
theorem dX17_used_16 : decode cX17_used 16 = .ok (.getfield 68, 3) := dk_180 0 68 (dk_at dksX17_used_0 16 rfl rfl)
theorem dX17_used_19 : decode cX17_used 19 = .ok (.invokevirtual 186, 3) := dk_182 0 186 (dk_at dksX17_used_0 19 rfl rfl)
theorem dX17_used_22 : decode cX17_used 22 = .ok (.ifCond .eq 128, 3) := dk_153 0 128 (dk_at dksX17_used_1 0 rfl rfl)
theorem dX17_used_25 : decode cX17_used 25 = .ok (.aload_n 0, 1) := dk_42 (dk_at dksX17_used_1 3 rfl rfl)
theorem dX17_used_26 : decode cX17_used 26 = .ok (.getfield 56, 3) := dk_180 0 56 (dk_at dksX17_used_1 4 rfl rfl)
theorem dX17_used_29 : decode cX17_used 29 = .ok (.iload_n 1, 1) := dk_27 (dk_at dksX17_used_1 7 rfl rfl)
theorem dX17_used_30 : decode cX17_used 30 = .ok (.baload, 1) := dk_51 (dk_at dksX17_used_1 8 rfl rfl)
theorem dX17_used_31 : decode cX17_used 31 = .ok (.ifCond .ne 119, 3) := dk_154 0 119 (dk_at dksX17_used_1 9 rfl rfl)
theorem dX17_used_34 : decode cX17_used 34 = .ok (.aload_n 0, 1) := dk_42 (dk_at dksX17_used_1 12 rfl rfl)
theorem dX17_used_35 : decode cX17_used 35 = .ok (.iconst (-1), 1) := dk_2 (dk_at dksX17_used_1 13 rfl rfl)
theorem dX17_used_36 : decode cX17_used 36 = .ok (.invokevirtual 212, 3) := dk_182 0 212 (dk_at dksX17_used_1 14 rfl rfl)
theorem dX17_used_39 : decode cX17_used 39 = .ok (.aload_n 0, 1) := dk_42 (dk_at dksX17_used_1 17 rfl rfl)
theorem dX17_used_40 : decode cX17_used 40 = .ok (.getfield 36, 3) := dk_180 0 36 (dk_at dksX17_used_1 18 rfl rfl)
theorem dX17_used_43 : decode cX17_used 43 = .ok (.aload_n 0, 1) := dk_42 (dk_at dksX17_used_1 21 rfl rfl)
theorem dX17_used_44 : decode cX17_used 44 = .ok (.getfield 68, 3) := dk_180 0 68 (dk_at dksX17_used_2 0 rfl rfl)
theorem dX17_used_47 : decode cX17_used 47 = .ok (.getfield 218, 3) := dk_180 0 218 (dk_at dksX17_used_2 3 rfl rfl)
theorem dX17_used_50 : decode cX17_used 50 = .ok (.invokevirtual 199, 3) := dk_182 0 199 (dk_at dksX17_used_2 6 rfl rfl)
theorem dX17_used_53 : decode cX17_used 53 = .ok (.istore_n 3, 1) := dk_62 (dk_at dksX17_used_2 9 rfl rfl)
theorem dX17_used_54 : decode cX17_used 54 = .ok (.iconst 0, 1) := dk_3 (dk_at dksX17_used_2 10 rfl rfl)
theorem dX17_used_55 : decode cX17_used 55 = .ok (.istore 4, 2) := dk_54 4 (dk_at dksX17_used_2 11 rfl rfl)
theorem dX17_used_57 : decode cX17_used 57 = .ok (.iload 4, 2) := dk_21 4 (dk_at dksX17_used_2 13 rfl rfl)
theorem dX17_used_59 : decode cX17_used 59 = .ok (.aload_n 0, 1) := dk_42 (dk_at dksX17_used_2 15 rfl rfl)
theorem dX17_used_60 : decode cX17_used 60 = .ok (.getfield 163, 3) := dk_180 0 163 (dk_at dksX17_used_2 16 rfl rfl)
theorem dX17_used_63 : decode cX17_used 63 = .ok (.if_icmp .ge 51, 3) := dk_162 0 51 (dk_at dksX17_used_2 19 rfl rfl)
theorem dX17_used_66 : decode cX17_used 66 = .ok (.aload_n 0, 1) := dk_42 (dk_at dksX17_used_2 22 rfl rfl)
theorem dX17_used_67 : decode cX17_used 67 = .ok (.getfield 36, 3) := dk_180 0 36 (dk_at dksX17_used_3 0 rfl rfl)
theorem dX17_used_70 : decode cX17_used 70 = .ok (.iload_n 3, 1) := dk_29 (dk_at dksX17_used_3 3 rfl rfl)
theorem dX17_used_71 : decode cX17_used 71 = .ok (.iconst 1, 1) := dk_4 (dk_at dksX17_used_3 4 rfl rfl)
theorem dX17_used_72 : decode cX17_used 72 = .ok (.iload 4, 2) := dk_21 4 (dk_at dksX17_used_3 5 rfl rfl)
theorem dX17_used_74 : decode cX17_used 74 = .ok (.iadd, 1) := dk_96 (dk_at dksX17_used_3 7 rfl rfl)
theorem dX17_used_75 : decode cX17_used 75 = .ok (.aload_n 0, 1) := dk_42 (dk_at dksX17_used_3 8 rfl rfl)
theorem dX17_used_76 : decode cX17_used 76 = .ok (.getfield 56, 3) := dk_180 0 56 (dk_at dksX17_used_3 9 rfl rfl)
theorem dX17_used_79 : decode cX17_used 79 = .ok (.iload 4, 2) := dk_21 4 (dk_at dksX17_used_3 12 rfl rfl)
theorem dX17_used_81 : decode cX17_used 81 = .ok (.baload, 1) := dk_51 (dk_at dksX17_used_3 14 rfl rfl)
theorem dX17_used_82 : decode cX17_used 82 = .ok (.ifCond .eq 7, 3) := dk_153 0 7 (dk_at dksX17_used_3 15 rfl rfl)
theorem dX17_used_85 : decode cX17_used 85 = .ok (.lconst 0, 1) := dk_9 (dk_at dksX17_used_3 18 rfl rfl)
theorem dX17_used_86 : decode cX17_used 86 = .ok (.goto 19, 3) := dk_167 0 19 (dk_at dksX17_used_3 19 rfl rfl)
theorem dX17_used_89 : decode cX17_used 89 = .ok (.aload_n 0, 1) := dk_42 (dk_at dksX17_used_3 22 rfl rfl)
theorem dX17_used_90 : decode cX17_used 90 = .ok (.getfield 68, 3) := dk_180 0 68 (dk_at dksX17_used_4 0 rfl rfl)
theorem dX17_used_93 : decode cX17_used 93 = .ok (.getfield 227, 3) := dk_180 0 227 (dk_at dksX17_used_4 3 rfl rfl)
theorem dX17_used_96 : decode cX17_used 96 = .ok (.aload_n 0, 1) := dk_42 (dk_at dksX17_used_4 6 rfl rfl)
theorem dX17_used_97 : decode cX17_used 97 = .ok (.getfield 53, 3) := dk_180 0 53 (dk_at dksX17_used_4 7 rfl rfl)
theorem dX17_used_100 : decode cX17_used 100 = .ok (.iload 4, 2) := dk_21 4 (dk_at dksX17_used_4 10 rfl rfl)
theorem dX17_used_102 : decode cX17_used 102 = .ok (.iaload, 1) := dk_46 (dk_at dksX17_used_4 12 rfl rfl)
theorem dX17_used_103 : decode cX17_used 103 = .ok (.i2l, 1) := dk_133 (dk_at dksX17_used_4 13 rfl rfl)
theorem dX17_used_104 : decode cX17_used 104 = .ok (.lmul, 1) := dk_105 (dk_at dksX17_used_4 14 rfl rfl)
theorem dX17_used_105 : decode cX17_used 105 = .ok (.invokevirtual 208, 3) := dk_182 0 208 (dk_at dksX17_used_4 15 rfl rfl)
theorem dX17_used_108 : decode cX17_used 108 = .ok (.iinc 4 1, 3) := dk_132 4 1 (dk_at dksX17_used_4 18 rfl rfl)
theorem dX17_used_111 : decode cX17_used 111 = .ok (.goto (-54), 3) := dk_167 255 202 (dk_at dksX17_used_4 21 rfl rfl)
theorem dX17_used_114 : decode cX17_used 114 = .ok (.aload_n 0, 1) := dk_42 (dk_at dksX17_used_5 0 rfl rfl)
theorem dX17_used_115 : decode cX17_used 115 = .ok (.getfield 36, 3) := dk_180 0 36 (dk_at dksX17_used_5 1 rfl rfl)
theorem dX17_used_118 : decode cX17_used 118 = .ok (.lconst 0, 1) := dk_9 (dk_at dksX17_used_5 4 rfl rfl)
theorem dX17_used_119 : decode cX17_used 119 = .ok (.invokevirtual 199, 3) := dk_182 0 199 (dk_at dksX17_used_5 5 rfl rfl)
theorem dX17_used_122 : decode cX17_used 122 = .ok (.istore 4, 2) := dk_54 4 (dk_at dksX17_used_5 8 rfl rfl)
theorem dX17_used_124 : decode cX17_used 124 = .ok (.aload_n 0, 1) := dk_42 (dk_at dksX17_used_5 10 rfl rfl)
theorem dX17_used_125 : decode cX17_used 125 = .ok (.getfield 36, 3) := dk_180 0 36 (dk_at dksX17_used_5 11 rfl rfl)
theorem dX17_used_128 : decode cX17_used 128 = .ok (.iload 4, 2) := dk_21 4 (dk_at dksX17_used_5 14 rfl rfl)
theorem dX17_used_130 : decode cX17_used 130 = .ok (.iconst 1, 1) := dk_4 (dk_at dksX17_used_5 16 rfl rfl)
theorem dX17_used_131 : decode cX17_used 131 = .ok (.iload_n 1, 1) := dk_27 (dk_at dksX17_used_5 17 rfl rfl)
theorem dX17_used_132 : decode cX17_used 132 = .ok (.iadd, 1) := dk_96 (dk_at dksX17_used_5 18 rfl rfl)
theorem dX17_used_133 : decode cX17_used 133 = .ok (.ldc2_w 203, 3) := dk_20 0 203 (dk_at dksX17_used_5 19 rfl rfl)
theorem dX17_used_136 : decode cX17_used 136 = .ok (.invokevirtual 208, 3) := dk_182 0 208 (dk_at dksX17_used_6 0 rfl rfl)
theorem dX17_used_139 : decode cX17_used 139 = .ok (.aload_n 0, 1) := dk_42 (dk_at dksX17_used_6 3 rfl rfl)
theorem dX17_used_140 : decode cX17_used 140 = .ok (.getfield 36, 3) := dk_180 0 36 (dk_at dksX17_used_6 4 rfl rfl)
theorem dX17_used_143 : decode cX17_used 143 = .ok (.aload_n 0, 1) := dk_42 (dk_at dksX17_used_6 7 rfl rfl)
theorem dX17_used_144 : decode cX17_used 144 = .ok (.getfield 72, 3) := dk_180 0 72 (dk_at dksX17_used_6 8 rfl rfl)
theorem dX17_used_147 : decode cX17_used 147 = .ok (.invokevirtual 215, 3) := dk_182 0 215 (dk_at dksX17_used_6 11 rfl rfl)
theorem dX17_used_150 : decode cX17_used 150 = .ok (.aload_n 0, 1) := dk_42 (dk_at dksX17_used_6 14 rfl rfl)
theorem dX17_used_151 : decode cX17_used 151 = .ok (.getfield 72, 3) := dk_180 0 72 (dk_at dksX17_used_6 15 rfl rfl)
theorem dX17_used_154 : decode cX17_used 154 = .ok (.iload_n 2, 1) := dk_28 (dk_at dksX17_used_6 18 rfl rfl)
theorem dX17_used_155 : decode cX17_used 155 = .ok (.invokevirtual 222, 3) := dk_182 0 222 (dk_at dksX17_used_6 19 rfl rfl)
theorem dX17_used_158 : decode cX17_used 158 = .ok (.lreturn, 1) := dk_173 (dk_at dksX17_used_6 22 rfl rfl)
abbrev cX17_share : ByteArray := prog_36_method_27_code
def yX17_share : MethodName := ⟨RX17, "share", "(II)J"⟩
def dkwX17_share_2 : List UInt8 := [182, 0, 222, 173]
abbrev dktX17_share_2 : List UInt8 := dkwX17_share_2 ++ []
def dkwX17_share_1 : List UInt8 := [180, 0, 72, 42, 180, 0, 59, 27, 46, 133, 42, 180, 0, 166, 133, 182, 0, 230, 42, 180, 0, 72, 28]
abbrev dktX17_share_1 : List UInt8 := dkwX17_share_1 ++ dktX17_share_2
def dkwX17_share_0 : List UInt8 := [42, 180, 0, 72, 182, 0, 226, 42, 27, 182, 0, 233, 153, 0, 29, 42, 180, 0, 166, 158, 0, 22, 42]
abbrev dktX17_share_0 : List UInt8 := dkwX17_share_0 ++ dktX17_share_1
theorem dksX17_share_0 : cX17_share.data.toList.drop 0 = dktX17_share_0 := by decide +kernel
theorem dksX17_share_1 : cX17_share.data.toList.drop 23 = dktX17_share_1 := dk_seg dksX17_share_0 23 rfl rfl
theorem dksX17_share_2 : cX17_share.data.toList.drop 46 = dktX17_share_2 := dk_seg dksX17_share_1 23 rfl rfl
theorem dX17_share_0 : decode cX17_share 0 = .ok (.aload_n 0, 1) := dk_42 (dk_at dksX17_share_0 0 rfl rfl)
theorem dX17_share_1 : decode cX17_share 1 = .ok (.getfield 72, 3) := dk_180 0 72 (dk_at dksX17_share_0 1 rfl rfl)
theorem dX17_share_4 : decode cX17_share 4 = .ok (.invokevirtual 226, 3) := dk_182 0 226 (dk_at dksX17_share_0 4 rfl rfl)
theorem dX17_share_7 : decode cX17_share 7 = .ok (.aload_n 0, 1) := dk_42 (dk_at dksX17_share_0 7 rfl rfl)
theorem dX17_share_8 : decode cX17_share 8 = .ok (.iload_n 1, 1) := dk_27 (dk_at dksX17_share_0 8 rfl rfl)
theorem dX17_share_9 : decode cX17_share 9 = .ok (.invokevirtual 233, 3) := dk_182 0 233 (dk_at dksX17_share_0 9 rfl rfl)
theorem dX17_share_12 : decode cX17_share 12 = .ok (.ifCond .eq 29, 3) := dk_153 0 29 (dk_at dksX17_share_0 12 rfl rfl)
theorem dX17_share_15 : decode cX17_share 15 = .ok (.aload_n 0, 1) := dk_42 (dk_at dksX17_share_0 15 rfl rfl)
theorem dX17_share_16 : decode cX17_share 16 = .ok (.getfield 166, 3) := dk_180 0 166 (dk_at dksX17_share_0 16 rfl rfl)
theorem dX17_share_19 : decode cX17_share 19 = .ok (.ifCond .le 22, 3) := dk_158 0 22 (dk_at dksX17_share_0 19 rfl rfl)
theorem dX17_share_22 : decode cX17_share 22 = .ok (.aload_n 0, 1) := dk_42 (dk_at dksX17_share_0 22 rfl rfl)
theorem dX17_share_23 : decode cX17_share 23 = .ok (.getfield 72, 3) := dk_180 0 72 (dk_at dksX17_share_1 0 rfl rfl)
theorem dX17_share_26 : decode cX17_share 26 = .ok (.aload_n 0, 1) := dk_42 (dk_at dksX17_share_1 3 rfl rfl)
theorem dX17_share_27 : decode cX17_share 27 = .ok (.getfield 59, 3) := dk_180 0 59 (dk_at dksX17_share_1 4 rfl rfl)
theorem dX17_share_30 : decode cX17_share 30 = .ok (.iload_n 1, 1) := dk_27 (dk_at dksX17_share_1 7 rfl rfl)
theorem dX17_share_31 : decode cX17_share 31 = .ok (.iaload, 1) := dk_46 (dk_at dksX17_share_1 8 rfl rfl)
theorem dX17_share_32 : decode cX17_share 32 = .ok (.i2l, 1) := dk_133 (dk_at dksX17_share_1 9 rfl rfl)
theorem dX17_share_33 : decode cX17_share 33 = .ok (.aload_n 0, 1) := dk_42 (dk_at dksX17_share_1 10 rfl rfl)
theorem dX17_share_34 : decode cX17_share 34 = .ok (.getfield 166, 3) := dk_180 0 166 (dk_at dksX17_share_1 11 rfl rfl)
theorem dX17_share_37 : decode cX17_share 37 = .ok (.i2l, 1) := dk_133 (dk_at dksX17_share_1 14 rfl rfl)
theorem dX17_share_38 : decode cX17_share 38 = .ok (.invokevirtual 230, 3) := dk_182 0 230 (dk_at dksX17_share_1 15 rfl rfl)
theorem dX17_share_41 : decode cX17_share 41 = .ok (.aload_n 0, 1) := dk_42 (dk_at dksX17_share_1 18 rfl rfl)
theorem dX17_share_42 : decode cX17_share 42 = .ok (.getfield 72, 3) := dk_180 0 72 (dk_at dksX17_share_1 19 rfl rfl)
theorem dX17_share_45 : decode cX17_share 45 = .ok (.iload_n 2, 1) := dk_28 (dk_at dksX17_share_1 22 rfl rfl)
theorem dX17_share_46 : decode cX17_share 46 = .ok (.invokevirtual 222, 3) := dk_182 0 222 (dk_at dksX17_share_2 0 rfl rfl)
theorem dX17_share_49 : decode cX17_share 49 = .ok (.lreturn, 1) := dk_173 (dk_at dksX17_share_2 3 rfl rfl)
abbrev cX17_dropped : ByteArray := prog_36_method_28_code
def yX17_dropped : MethodName := ⟨RX17, "dropped", "(I)Z"⟩
def dkwX17_dropped_1 : List UInt8 := [51, 154, 0, 7, 4, 167, 0, 4, 3, 172]
abbrev dktX17_dropped_1 : List UInt8 := dkwX17_dropped_1 ++ []
def dkwX17_dropped_0 : List UInt8 := [42, 180, 0, 156, 153, 0, 28, 27, 155, 0, 24, 27, 42, 180, 0, 160, 162, 0, 16, 42, 180, 0, 43, 27]
abbrev dktX17_dropped_0 : List UInt8 := dkwX17_dropped_0 ++ dktX17_dropped_1
theorem dksX17_dropped_0 : cX17_dropped.data.toList.drop 0 = dktX17_dropped_0 := by decide +kernel
theorem dksX17_dropped_1 : cX17_dropped.data.toList.drop 24 = dktX17_dropped_1 := dk_seg dksX17_dropped_0 24 rfl rfl
theorem dX17_dropped_0 : decode cX17_dropped 0 = .ok (.aload_n 0, 1) := dk_42 (dk_at dksX17_dropped_0 0 rfl rfl)
theorem dX17_dropped_1 : decode cX17_dropped 1 = .ok (.getfield 156, 3) := dk_180 0 156 (dk_at dksX17_dropped_0 1 rfl rfl)
theorem dX17_dropped_4 : decode cX17_dropped 4 = .ok (.ifCond .eq 28, 3) := dk_153 0 28 (dk_at dksX17_dropped_0 4 rfl rfl)
theorem dX17_dropped_7 : decode cX17_dropped 7 = .ok (.iload_n 1, 1) := dk_27 (dk_at dksX17_dropped_0 7 rfl rfl)
theorem dX17_dropped_8 : decode cX17_dropped 8 = .ok (.ifCond .lt 24, 3) := dk_155 0 24 (dk_at dksX17_dropped_0 8 rfl rfl)
theorem dX17_dropped_11 : decode cX17_dropped 11 = .ok (.iload_n 1, 1) := dk_27 (dk_at dksX17_dropped_0 11 rfl rfl)
theorem dX17_dropped_12 : decode cX17_dropped 12 = .ok (.aload_n 0, 1) := dk_42 (dk_at dksX17_dropped_0 12 rfl rfl)
theorem dX17_dropped_13 : decode cX17_dropped 13 = .ok (.getfield 160, 3) := dk_180 0 160 (dk_at dksX17_dropped_0 13 rfl rfl)
theorem dX17_dropped_16 : decode cX17_dropped 16 = .ok (.if_icmp .ge 16, 3) := dk_162 0 16 (dk_at dksX17_dropped_0 16 rfl rfl)
theorem dX17_dropped_19 : decode cX17_dropped 19 = .ok (.aload_n 0, 1) := dk_42 (dk_at dksX17_dropped_0 19 rfl rfl)
theorem dX17_dropped_20 : decode cX17_dropped 20 = .ok (.getfield 43, 3) := dk_180 0 43 (dk_at dksX17_dropped_0 20 rfl rfl)
theorem dX17_dropped_23 : decode cX17_dropped 23 = .ok (.iload_n 1, 1) := dk_27 (dk_at dksX17_dropped_0 23 rfl rfl)
theorem dX17_dropped_24 : decode cX17_dropped 24 = .ok (.baload, 1) := dk_51 (dk_at dksX17_dropped_1 0 rfl rfl)
theorem dX17_dropped_25 : decode cX17_dropped 25 = .ok (.ifCond .ne 7, 3) := dk_154 0 7 (dk_at dksX17_dropped_1 1 rfl rfl)
theorem dX17_dropped_28 : decode cX17_dropped 28 = .ok (.iconst 1, 1) := dk_4 (dk_at dksX17_dropped_1 4 rfl rfl)
theorem dX17_dropped_29 : decode cX17_dropped 29 = .ok (.goto 4, 3) := dk_167 0 4 (dk_at dksX17_dropped_1 5 rfl rfl)
theorem dX17_dropped_32 : decode cX17_dropped 32 = .ok (.iconst 0, 1) := dk_3 (dk_at dksX17_dropped_1 8 rfl rfl)
theorem dX17_dropped_33 : decode cX17_dropped 33 = .ok (.ireturn, 1) := dk_172 (dk_at dksX17_dropped_1 9 rfl rfl)
abbrev cX17_cuts : ByteArray := prog_36_method_29_code
def yX17_cuts : MethodName := ⟨RX17, "cuts", "()I"⟩
theorem dX17_cuts_0 : decode cX17_cuts 0 = .ok (.aload_n 0, 1) := by decide +kernel
theorem dX17_cuts_1 : decode cX17_cuts 1 = .ok (.getfield 193, 3) := by decide +kernel
theorem dX17_cuts_4 : decode cX17_cuts 4 = .ok (.ireturn, 1) := by decide +kernel
abbrev cX17_cut : ByteArray := prog_36_method_30_code
def yX17_cut : MethodName := ⟨RX17, "cut", "(II)I"⟩
def dkwX17_cut_2 : List UInt8 := [29, 29, 4, 100, 126, 62, 132, 4, 1, 167, 255, 241, 29, 184, 0, 241, 172]
abbrev dktX17_cut_2 : List UInt8 := dkwX17_cut_2 ++ []
def dkwX17_cut_1 : List UInt8 := [184, 0, 236, 161, 0, 5, 2, 172, 42, 180, 0, 62, 27, 46, 62, 3, 54, 4, 21, 4, 28, 162, 0, 15]
abbrev dktX17_cut_1 : List UInt8 := dkwX17_cut_1 ++ dktX17_cut_2
def dkwX17_cut_0 : List UInt8 := [27, 155, 0, 28, 27, 42, 180, 0, 193, 162, 0, 20, 28, 155, 0, 16, 28, 42, 180, 0, 62, 27, 46]
abbrev dktX17_cut_0 : List UInt8 := dkwX17_cut_0 ++ dktX17_cut_1
theorem dksX17_cut_0 : cX17_cut.data.toList.drop 0 = dktX17_cut_0 := by decide +kernel
theorem dksX17_cut_1 : cX17_cut.data.toList.drop 23 = dktX17_cut_1 := dk_seg dksX17_cut_0 23 rfl rfl
theorem dksX17_cut_2 : cX17_cut.data.toList.drop 47 = dktX17_cut_2 := dk_seg dksX17_cut_1 24 rfl rfl
theorem dX17_cut_0 : decode cX17_cut 0 = .ok (.iload_n 1, 1) := dk_27 (dk_at dksX17_cut_0 0 rfl rfl)
theorem dX17_cut_1 : decode cX17_cut 1 = .ok (.ifCond .lt 28, 3) := dk_155 0 28 (dk_at dksX17_cut_0 1 rfl rfl)
theorem dX17_cut_4 : decode cX17_cut 4 = .ok (.iload_n 1, 1) := dk_27 (dk_at dksX17_cut_0 4 rfl rfl)
theorem dX17_cut_5 : decode cX17_cut 5 = .ok (.aload_n 0, 1) := dk_42 (dk_at dksX17_cut_0 5 rfl rfl)
theorem dX17_cut_6 : decode cX17_cut 6 = .ok (.getfield 193, 3) := dk_180 0 193 (dk_at dksX17_cut_0 6 rfl rfl)
theorem dX17_cut_9 : decode cX17_cut 9 = .ok (.if_icmp .ge 20, 3) := dk_162 0 20 (dk_at dksX17_cut_0 9 rfl rfl)
theorem dX17_cut_12 : decode cX17_cut 12 = .ok (.iload_n 2, 1) := dk_28 (dk_at dksX17_cut_0 12 rfl rfl)
theorem dX17_cut_13 : decode cX17_cut 13 = .ok (.ifCond .lt 16, 3) := dk_155 0 16 (dk_at dksX17_cut_0 13 rfl rfl)
theorem dX17_cut_16 : decode cX17_cut 16 = .ok (.iload_n 2, 1) := dk_28 (dk_at dksX17_cut_0 16 rfl rfl)
theorem dX17_cut_17 : decode cX17_cut 17 = .ok (.aload_n 0, 1) := dk_42 (dk_at dksX17_cut_0 17 rfl rfl)
theorem dX17_cut_18 : decode cX17_cut 18 = .ok (.getfield 62, 3) := dk_180 0 62 (dk_at dksX17_cut_0 18 rfl rfl)
theorem dX17_cut_21 : decode cX17_cut 21 = .ok (.iload_n 1, 1) := dk_27 (dk_at dksX17_cut_0 21 rfl rfl)
theorem dX17_cut_22 : decode cX17_cut 22 = .ok (.iaload, 1) := dk_46 (dk_at dksX17_cut_0 22 rfl rfl)
theorem dX17_cut_23 : decode cX17_cut 23 = .ok (.invokestatic 236, 3) := dk_184 0 236 (dk_at dksX17_cut_1 0 rfl rfl)
theorem dX17_cut_26 : decode cX17_cut 26 = .ok (.if_icmp .lt 5, 3) := dk_161 0 5 (dk_at dksX17_cut_1 3 rfl rfl)
theorem dX17_cut_29 : decode cX17_cut 29 = .ok (.iconst (-1), 1) := dk_2 (dk_at dksX17_cut_1 6 rfl rfl)
theorem dX17_cut_30 : decode cX17_cut 30 = .ok (.ireturn, 1) := dk_172 (dk_at dksX17_cut_1 7 rfl rfl)
theorem dX17_cut_31 : decode cX17_cut 31 = .ok (.aload_n 0, 1) := dk_42 (dk_at dksX17_cut_1 8 rfl rfl)
theorem dX17_cut_32 : decode cX17_cut 32 = .ok (.getfield 62, 3) := dk_180 0 62 (dk_at dksX17_cut_1 9 rfl rfl)
theorem dX17_cut_35 : decode cX17_cut 35 = .ok (.iload_n 1, 1) := dk_27 (dk_at dksX17_cut_1 12 rfl rfl)
theorem dX17_cut_36 : decode cX17_cut 36 = .ok (.iaload, 1) := dk_46 (dk_at dksX17_cut_1 13 rfl rfl)
theorem dX17_cut_37 : decode cX17_cut 37 = .ok (.istore_n 3, 1) := dk_62 (dk_at dksX17_cut_1 14 rfl rfl)
theorem dX17_cut_38 : decode cX17_cut 38 = .ok (.iconst 0, 1) := dk_3 (dk_at dksX17_cut_1 15 rfl rfl)
theorem dX17_cut_39 : decode cX17_cut 39 = .ok (.istore 4, 2) := dk_54 4 (dk_at dksX17_cut_1 16 rfl rfl)
theorem dX17_cut_41 : decode cX17_cut 41 = .ok (.iload 4, 2) := dk_21 4 (dk_at dksX17_cut_1 18 rfl rfl)
theorem dX17_cut_43 : decode cX17_cut 43 = .ok (.iload_n 2, 1) := dk_28 (dk_at dksX17_cut_1 20 rfl rfl)
theorem dX17_cut_44 : decode cX17_cut 44 = .ok (.if_icmp .ge 15, 3) := dk_162 0 15 (dk_at dksX17_cut_1 21 rfl rfl)
theorem dX17_cut_47 : decode cX17_cut 47 = .ok (.iload_n 3, 1) := dk_29 (dk_at dksX17_cut_2 0 rfl rfl)
theorem dX17_cut_48 : decode cX17_cut 48 = .ok (.iload_n 3, 1) := dk_29 (dk_at dksX17_cut_2 1 rfl rfl)
theorem dX17_cut_49 : decode cX17_cut 49 = .ok (.iconst 1, 1) := dk_4 (dk_at dksX17_cut_2 2 rfl rfl)
theorem dX17_cut_50 : decode cX17_cut 50 = .ok (.isub, 1) := dk_100 (dk_at dksX17_cut_2 3 rfl rfl)
theorem dX17_cut_51 : decode cX17_cut 51 = .ok (.iand, 1) := dk_126 (dk_at dksX17_cut_2 4 rfl rfl)
theorem dX17_cut_52 : decode cX17_cut 52 = .ok (.istore_n 3, 1) := dk_62 (dk_at dksX17_cut_2 5 rfl rfl)
theorem dX17_cut_53 : decode cX17_cut 53 = .ok (.iinc 4 1, 3) := dk_132 4 1 (dk_at dksX17_cut_2 6 rfl rfl)
theorem dX17_cut_56 : decode cX17_cut 56 = .ok (.goto (-15), 3) := dk_167 255 241 (dk_at dksX17_cut_2 9 rfl rfl)
theorem dX17_cut_59 : decode cX17_cut 59 = .ok (.iload_n 3, 1) := dk_29 (dk_at dksX17_cut_2 12 rfl rfl)
theorem dX17_cut_60 : decode cX17_cut 60 = .ok (.invokestatic 241, 3) := dk_184 0 241 (dk_at dksX17_cut_2 13 rfl rfl)
theorem dX17_cut_63 : decode cX17_cut 63 = .ok (.ireturn, 1) := dk_172 (dk_at dksX17_cut_2 16 rfl rfl)
abbrev cX17_check : ByteArray := prog_36_method_32_code
def yX17_check : MethodName := ⟨RX17, "check", "()I"⟩
def dkwX17_check_1 : List UInt8 := [27, 42, 180, 0, 163, 162, 0, 9, 4, 27, 96, 167, 0, 4, 3, 172]
abbrev dktX17_check_1 : List UInt8 := dkwX17_check_1 ++ []
def dkwX17_check_0 : List UInt8 := [3, 60, 27, 42, 180, 0, 163, 162, 0, 17, 42, 27, 182, 0, 247, 153, 0, 9, 132, 1, 1, 167, 255, 237]
abbrev dktX17_check_0 : List UInt8 := dkwX17_check_0 ++ dktX17_check_1
theorem dksX17_check_0 : cX17_check.data.toList.drop 0 = dktX17_check_0 := by decide +kernel
theorem dksX17_check_1 : cX17_check.data.toList.drop 24 = dktX17_check_1 := dk_seg dksX17_check_0 24 rfl rfl
theorem dX17_check_0 : decode cX17_check 0 = .ok (.iconst 0, 1) := dk_3 (dk_at dksX17_check_0 0 rfl rfl)
theorem dX17_check_1 : decode cX17_check 1 = .ok (.istore_n 1, 1) := dk_60 (dk_at dksX17_check_0 1 rfl rfl)
theorem dX17_check_2 : decode cX17_check 2 = .ok (.iload_n 1, 1) := dk_27 (dk_at dksX17_check_0 2 rfl rfl)
theorem dX17_check_3 : decode cX17_check 3 = .ok (.aload_n 0, 1) := dk_42 (dk_at dksX17_check_0 3 rfl rfl)
theorem dX17_check_4 : decode cX17_check 4 = .ok (.getfield 163, 3) := dk_180 0 163 (dk_at dksX17_check_0 4 rfl rfl)
theorem dX17_check_7 : decode cX17_check 7 = .ok (.if_icmp .ge 17, 3) := dk_162 0 17 (dk_at dksX17_check_0 7 rfl rfl)
theorem dX17_check_10 : decode cX17_check 10 = .ok (.aload_n 0, 1) := dk_42 (dk_at dksX17_check_0 10 rfl rfl)
theorem dX17_check_11 : decode cX17_check 11 = .ok (.iload_n 1, 1) := dk_27 (dk_at dksX17_check_0 11 rfl rfl)
theorem dX17_check_12 : decode cX17_check 12 = .ok (.invokevirtual 247, 3) := dk_182 0 247 (dk_at dksX17_check_0 12 rfl rfl)
theorem dX17_check_15 : decode cX17_check 15 = .ok (.ifCond .eq 9, 3) := dk_153 0 9 (dk_at dksX17_check_0 15 rfl rfl)
theorem dX17_check_18 : decode cX17_check 18 = .ok (.iinc 1 1, 3) := dk_132 1 1 (dk_at dksX17_check_0 18 rfl rfl)
theorem dX17_check_21 : decode cX17_check 21 = .ok (.goto (-19), 3) := dk_167 255 237 (dk_at dksX17_check_0 21 rfl rfl)
theorem dX17_check_24 : decode cX17_check 24 = .ok (.iload_n 1, 1) := dk_27 (dk_at dksX17_check_1 0 rfl rfl)
theorem dX17_check_25 : decode cX17_check 25 = .ok (.aload_n 0, 1) := dk_42 (dk_at dksX17_check_1 1 rfl rfl)
theorem dX17_check_26 : decode cX17_check 26 = .ok (.getfield 163, 3) := dk_180 0 163 (dk_at dksX17_check_1 2 rfl rfl)
theorem dX17_check_29 : decode cX17_check 29 = .ok (.if_icmp .ge 9, 3) := dk_162 0 9 (dk_at dksX17_check_1 5 rfl rfl)
theorem dX17_check_32 : decode cX17_check 32 = .ok (.iconst 1, 1) := dk_4 (dk_at dksX17_check_1 8 rfl rfl)
theorem dX17_check_33 : decode cX17_check 33 = .ok (.iload_n 1, 1) := dk_27 (dk_at dksX17_check_1 9 rfl rfl)
theorem dX17_check_34 : decode cX17_check 34 = .ok (.iadd, 1) := dk_96 (dk_at dksX17_check_1 10 rfl rfl)
theorem dX17_check_35 : decode cX17_check 35 = .ok (.goto 4, 3) := dk_167 0 4 (dk_at dksX17_check_1 11 rfl rfl)
theorem dX17_check_38 : decode cX17_check 38 = .ok (.iconst 0, 1) := dk_3 (dk_at dksX17_check_1 14 rfl rfl)
theorem dX17_check_39 : decode cX17_check 39 = .ok (.ireturn, 1) := dk_172 (dk_at dksX17_check_1 15 rfl rfl)
abbrev cX17_stands : ByteArray := prog_36_method_31_code
def yX17_stands : MethodName := ⟨RX17, "stands", "(I)Z"⟩
def dkwX17_stands_7 : List UInt8 := [180, 0, 53, 27, 46, 160, 0, 7, 4, 167, 0, 4, 3, 172]
abbrev dktX17_stands_7 : List UInt8 := dkwX17_stands_7 ++ []
def dkwX17_stands_6 : List UInt8 := [132, 7, 1, 167, 255, 156, 21, 6, 153, 0, 26, 29, 42, 180, 0, 96, 163, 0, 18, 21, 4, 42]
abbrev dktX17_stands_6 : List UInt8 := dkwX17_stands_6 ++ dktX17_stands_7
def dkwX17_stands_5 : List UInt8 := [96, 96, 62, 21, 4, 42, 180, 0, 19, 16, 7, 28, 104, 21, 8, 96, 46, 96, 54, 4, 21, 8, 61]
abbrev dktX17_stands_5 : List UInt8 := dkwX17_stands_5 ++ dktX17_stands_6
def dkwX17_stands_4 : List UInt8 := [28, 104, 21, 8, 96, 46, 21, 8, 154, 0, 7, 3, 167, 0, 12, 42, 180, 0, 13, 21, 8, 4, 100, 46]
abbrev dktX17_stands_4 : List UInt8 := dkwX17_stands_4 ++ dktX17_stands_5
def dkwX17_stands_3 : List UInt8 := [21, 7, 182, 0, 244, 96, 54, 8, 42, 28, 21, 8, 182, 0, 115, 54, 6, 29, 42, 180, 0, 16, 16, 7]
abbrev dktX17_stands_3 : List UInt8 := dkwX17_stands_3 ++ dktX17_stands_4
def dkwX17_stands_2 : List UInt8 := [21, 5, 163, 0, 99, 21, 6, 153, 0, 94, 21, 7, 21, 5, 160, 0, 7, 3, 167, 0, 12, 4, 42, 27]
abbrev dktX17_stands_2 : List UInt8 := dkwX17_stands_2 ++ dktX17_stands_3
def dkwX17_stands_1 : List UInt8 := [46, 182, 0, 119, 42, 180, 0, 93, 163, 0, 7, 4, 167, 0, 4, 3, 54, 6, 3, 54, 7, 21, 7]
abbrev dktX17_stands_1 : List UInt8 := dkwX17_stands_1 ++ dktX17_stands_2
def dkwX17_stands_0 : List UInt8 := [3, 61, 3, 62, 3, 54, 4, 42, 180, 0, 47, 27, 46, 184, 0, 236, 54, 5, 42, 42, 180, 0, 47, 27]
abbrev dktX17_stands_0 : List UInt8 := dkwX17_stands_0 ++ dktX17_stands_1
theorem dksX17_stands_0 : cX17_stands.data.toList.drop 0 = dktX17_stands_0 := by decide +kernel
theorem dksX17_stands_1 : cX17_stands.data.toList.drop 24 = dktX17_stands_1 := dk_seg dksX17_stands_0 24 rfl rfl
theorem dksX17_stands_2 : cX17_stands.data.toList.drop 47 = dktX17_stands_2 := dk_seg dksX17_stands_1 23 rfl rfl
theorem dksX17_stands_3 : cX17_stands.data.toList.drop 71 = dktX17_stands_3 := dk_seg dksX17_stands_2 24 rfl rfl
theorem dksX17_stands_4 : cX17_stands.data.toList.drop 95 = dktX17_stands_4 := dk_seg dksX17_stands_3 24 rfl rfl
theorem dksX17_stands_5 : cX17_stands.data.toList.drop 119 = dktX17_stands_5 := dk_seg dksX17_stands_4 24 rfl rfl
theorem dksX17_stands_6 : cX17_stands.data.toList.drop 142 = dktX17_stands_6 := dk_seg dksX17_stands_5 23 rfl rfl
theorem dksX17_stands_7 : cX17_stands.data.toList.drop 164 = dktX17_stands_7 := dk_seg dksX17_stands_6 22 rfl rfl
theorem dX17_stands_0 : decode cX17_stands 0 = .ok (.iconst 0, 1) := dk_3 (dk_at dksX17_stands_0 0 rfl rfl)
theorem dX17_stands_1 : decode cX17_stands 1 = .ok (.istore_n 2, 1) := dk_61 (dk_at dksX17_stands_0 1 rfl rfl)
theorem dX17_stands_2 : decode cX17_stands 2 = .ok (.iconst 0, 1) := dk_3 (dk_at dksX17_stands_0 2 rfl rfl)
theorem dX17_stands_3 : decode cX17_stands 3 = .ok (.istore_n 3, 1) := dk_62 (dk_at dksX17_stands_0 3 rfl rfl)
theorem dX17_stands_4 : decode cX17_stands 4 = .ok (.iconst 0, 1) := dk_3 (dk_at dksX17_stands_0 4 rfl rfl)
theorem dX17_stands_5 : decode cX17_stands 5 = .ok (.istore 4, 2) := dk_54 4 (dk_at dksX17_stands_0 5 rfl rfl)
theorem dX17_stands_7 : decode cX17_stands 7 = .ok (.aload_n 0, 1) := dk_42 (dk_at dksX17_stands_0 7 rfl rfl)
theorem dX17_stands_8 : decode cX17_stands 8 = .ok (.getfield 47, 3) := dk_180 0 47 (dk_at dksX17_stands_0 8 rfl rfl)
theorem dX17_stands_11 : decode cX17_stands 11 = .ok (.iload_n 1, 1) := dk_27 (dk_at dksX17_stands_0 11 rfl rfl)
theorem dX17_stands_12 : decode cX17_stands 12 = .ok (.iaload, 1) := dk_46 (dk_at dksX17_stands_0 12 rfl rfl)
theorem dX17_stands_13 : decode cX17_stands 13 = .ok (.invokestatic 236, 3) := dk_184 0 236 (dk_at dksX17_stands_0 13 rfl rfl)
theorem dX17_stands_16 : decode cX17_stands 16 = .ok (.istore 5, 2) := dk_54 5 (dk_at dksX17_stands_0 16 rfl rfl)
theorem dX17_stands_18 : decode cX17_stands 18 = .ok (.aload_n 0, 1) := dk_42 (dk_at dksX17_stands_0 18 rfl rfl)
theorem dX17_stands_19 : decode cX17_stands 19 = .ok (.aload_n 0, 1) := dk_42 (dk_at dksX17_stands_0 19 rfl rfl)
theorem dX17_stands_20 : decode cX17_stands 20 = .ok (.getfield 47, 3) := dk_180 0 47 (dk_at dksX17_stands_0 20 rfl rfl)
theorem dX17_stands_23 : decode cX17_stands 23 = .ok (.iload_n 1, 1) := dk_27 (dk_at dksX17_stands_0 23 rfl rfl)
theorem dX17_stands_24 : decode cX17_stands 24 = .ok (.iaload, 1) := dk_46 (dk_at dksX17_stands_1 0 rfl rfl)
theorem dX17_stands_25 : decode cX17_stands 25 = .ok (.invokevirtual 119, 3) := dk_182 0 119 (dk_at dksX17_stands_1 1 rfl rfl)
theorem dX17_stands_28 : decode cX17_stands 28 = .ok (.aload_n 0, 1) := dk_42 (dk_at dksX17_stands_1 4 rfl rfl)
theorem dX17_stands_29 : decode cX17_stands 29 = .ok (.getfield 93, 3) := dk_180 0 93 (dk_at dksX17_stands_1 5 rfl rfl)
theorem dX17_stands_32 : decode cX17_stands 32 = .ok (.if_icmp .gt 7, 3) := dk_163 0 7 (dk_at dksX17_stands_1 8 rfl rfl)
theorem dX17_stands_35 : decode cX17_stands 35 = .ok (.iconst 1, 1) := dk_4 (dk_at dksX17_stands_1 11 rfl rfl)
theorem dX17_stands_36 : decode cX17_stands 36 = .ok (.goto 4, 3) := dk_167 0 4 (dk_at dksX17_stands_1 12 rfl rfl)
theorem dX17_stands_39 : decode cX17_stands 39 = .ok (.iconst 0, 1) := dk_3 (dk_at dksX17_stands_1 15 rfl rfl)
theorem dX17_stands_40 : decode cX17_stands 40 = .ok (.istore 6, 2) := dk_54 6 (dk_at dksX17_stands_1 16 rfl rfl)
theorem dX17_stands_42 : decode cX17_stands 42 = .ok (.iconst 0, 1) := dk_3 (dk_at dksX17_stands_1 18 rfl rfl)
theorem dX17_stands_43 : decode cX17_stands 43 = .ok (.istore 7, 2) := dk_54 7 (dk_at dksX17_stands_1 19 rfl rfl)
theorem dX17_stands_45 : decode cX17_stands 45 = .ok (.iload 7, 2) := dk_21 7 (dk_at dksX17_stands_1 21 rfl rfl)
theorem dX17_stands_47 : decode cX17_stands 47 = .ok (.iload 5, 2) := dk_21 5 (dk_at dksX17_stands_2 0 rfl rfl)
theorem dX17_stands_49 : decode cX17_stands 49 = .ok (.if_icmp .gt 99, 3) := dk_163 0 99 (dk_at dksX17_stands_2 2 rfl rfl)
theorem dX17_stands_52 : decode cX17_stands 52 = .ok (.iload 6, 2) := dk_21 6 (dk_at dksX17_stands_2 5 rfl rfl)
theorem dX17_stands_54 : decode cX17_stands 54 = .ok (.ifCond .eq 94, 3) := dk_153 0 94 (dk_at dksX17_stands_2 7 rfl rfl)
theorem dX17_stands_57 : decode cX17_stands 57 = .ok (.iload 7, 2) := dk_21 7 (dk_at dksX17_stands_2 10 rfl rfl)
theorem dX17_stands_59 : decode cX17_stands 59 = .ok (.iload 5, 2) := dk_21 5 (dk_at dksX17_stands_2 12 rfl rfl)
theorem dX17_stands_61 : decode cX17_stands 61 = .ok (.if_icmp .ne 7, 3) := dk_160 0 7 (dk_at dksX17_stands_2 14 rfl rfl)
theorem dX17_stands_64 : decode cX17_stands 64 = .ok (.iconst 0, 1) := dk_3 (dk_at dksX17_stands_2 17 rfl rfl)
theorem dX17_stands_65 : decode cX17_stands 65 = .ok (.goto 12, 3) := dk_167 0 12 (dk_at dksX17_stands_2 18 rfl rfl)
theorem dX17_stands_68 : decode cX17_stands 68 = .ok (.iconst 1, 1) := dk_4 (dk_at dksX17_stands_2 21 rfl rfl)
theorem dX17_stands_69 : decode cX17_stands 69 = .ok (.aload_n 0, 1) := dk_42 (dk_at dksX17_stands_2 22 rfl rfl)
theorem dX17_stands_70 : decode cX17_stands 70 = .ok (.iload_n 1, 1) := dk_27 (dk_at dksX17_stands_2 23 rfl rfl)
theorem dX17_stands_71 : decode cX17_stands 71 = .ok (.iload 7, 2) := dk_21 7 (dk_at dksX17_stands_3 0 rfl rfl)
theorem dX17_stands_73 : decode cX17_stands 73 = .ok (.invokevirtual 244, 3) := dk_182 0 244 (dk_at dksX17_stands_3 2 rfl rfl)
theorem dX17_stands_76 : decode cX17_stands 76 = .ok (.iadd, 1) := dk_96 (dk_at dksX17_stands_3 5 rfl rfl)
theorem dX17_stands_77 : decode cX17_stands 77 = .ok (.istore 8, 2) := dk_54 8 (dk_at dksX17_stands_3 6 rfl rfl)
theorem dX17_stands_79 : decode cX17_stands 79 = .ok (.aload_n 0, 1) := dk_42 (dk_at dksX17_stands_3 8 rfl rfl)
theorem dX17_stands_80 : decode cX17_stands 80 = .ok (.iload_n 2, 1) := dk_28 (dk_at dksX17_stands_3 9 rfl rfl)
theorem dX17_stands_81 : decode cX17_stands 81 = .ok (.iload 8, 2) := dk_21 8 (dk_at dksX17_stands_3 10 rfl rfl)
theorem dX17_stands_83 : decode cX17_stands 83 = .ok (.invokevirtual 115, 3) := dk_182 0 115 (dk_at dksX17_stands_3 12 rfl rfl)
theorem dX17_stands_86 : decode cX17_stands 86 = .ok (.istore 6, 2) := dk_54 6 (dk_at dksX17_stands_3 15 rfl rfl)
theorem dX17_stands_88 : decode cX17_stands 88 = .ok (.iload_n 3, 1) := dk_29 (dk_at dksX17_stands_3 17 rfl rfl)
theorem dX17_stands_89 : decode cX17_stands 89 = .ok (.aload_n 0, 1) := dk_42 (dk_at dksX17_stands_3 18 rfl rfl)
theorem dX17_stands_90 : decode cX17_stands 90 = .ok (.getfield 16, 3) := dk_180 0 16 (dk_at dksX17_stands_3 19 rfl rfl)
theorem dX17_stands_93 : decode cX17_stands 93 = .ok (.bipush 7, 2) := dk_16 7 (dk_at dksX17_stands_3 22 rfl rfl)
theorem dX17_stands_95 : decode cX17_stands 95 = .ok (.iload_n 2, 1) := dk_28 (dk_at dksX17_stands_4 0 rfl rfl)
theorem dX17_stands_96 : decode cX17_stands 96 = .ok (.imul, 1) := dk_104 (dk_at dksX17_stands_4 1 rfl rfl)
theorem dX17_stands_97 : decode cX17_stands 97 = .ok (.iload 8, 2) := dk_21 8 (dk_at dksX17_stands_4 2 rfl rfl)
theorem dX17_stands_99 : decode cX17_stands 99 = .ok (.iadd, 1) := dk_96 (dk_at dksX17_stands_4 4 rfl rfl)
theorem dX17_stands_100 : decode cX17_stands 100 = .ok (.iaload, 1) := dk_46 (dk_at dksX17_stands_4 5 rfl rfl)
theorem dX17_stands_101 : decode cX17_stands 101 = .ok (.iload 8, 2) := dk_21 8 (dk_at dksX17_stands_4 6 rfl rfl)
theorem dX17_stands_103 : decode cX17_stands 103 = .ok (.ifCond .ne 7, 3) := dk_154 0 7 (dk_at dksX17_stands_4 8 rfl rfl)
theorem dX17_stands_106 : decode cX17_stands 106 = .ok (.iconst 0, 1) := dk_3 (dk_at dksX17_stands_4 11 rfl rfl)
theorem dX17_stands_107 : decode cX17_stands 107 = .ok (.goto 12, 3) := dk_167 0 12 (dk_at dksX17_stands_4 12 rfl rfl)
theorem dX17_stands_110 : decode cX17_stands 110 = .ok (.aload_n 0, 1) := dk_42 (dk_at dksX17_stands_4 15 rfl rfl)
theorem dX17_stands_111 : decode cX17_stands 111 = .ok (.getfield 13, 3) := dk_180 0 13 (dk_at dksX17_stands_4 16 rfl rfl)
theorem dX17_stands_114 : decode cX17_stands 114 = .ok (.iload 8, 2) := dk_21 8 (dk_at dksX17_stands_4 19 rfl rfl)
theorem dX17_stands_116 : decode cX17_stands 116 = .ok (.iconst 1, 1) := dk_4 (dk_at dksX17_stands_4 21 rfl rfl)
theorem dX17_stands_117 : decode cX17_stands 117 = .ok (.isub, 1) := dk_100 (dk_at dksX17_stands_4 22 rfl rfl)
theorem dX17_stands_118 : decode cX17_stands 118 = .ok (.iaload, 1) := dk_46 (dk_at dksX17_stands_4 23 rfl rfl)
theorem dX17_stands_119 : decode cX17_stands 119 = .ok (.iadd, 1) := dk_96 (dk_at dksX17_stands_5 0 rfl rfl)
theorem dX17_stands_120 : decode cX17_stands 120 = .ok (.iadd, 1) := dk_96 (dk_at dksX17_stands_5 1 rfl rfl)
theorem dX17_stands_121 : decode cX17_stands 121 = .ok (.istore_n 3, 1) := dk_62 (dk_at dksX17_stands_5 2 rfl rfl)
theorem dX17_stands_122 : decode cX17_stands 122 = .ok (.iload 4, 2) := dk_21 4 (dk_at dksX17_stands_5 3 rfl rfl)
theorem dX17_stands_124 : decode cX17_stands 124 = .ok (.aload_n 0, 1) := dk_42 (dk_at dksX17_stands_5 5 rfl rfl)
theorem dX17_stands_125 : decode cX17_stands 125 = .ok (.getfield 19, 3) := dk_180 0 19 (dk_at dksX17_stands_5 6 rfl rfl)
theorem dX17_stands_128 : decode cX17_stands 128 = .ok (.bipush 7, 2) := dk_16 7 (dk_at dksX17_stands_5 9 rfl rfl)
theorem dX17_stands_130 : decode cX17_stands 130 = .ok (.iload_n 2, 1) := dk_28 (dk_at dksX17_stands_5 11 rfl rfl)
theorem dX17_stands_131 : decode cX17_stands 131 = .ok (.imul, 1) := dk_104 (dk_at dksX17_stands_5 12 rfl rfl)
theorem dX17_stands_132 : decode cX17_stands 132 = .ok (.iload 8, 2) := dk_21 8 (dk_at dksX17_stands_5 13 rfl rfl)
theorem dX17_stands_134 : decode cX17_stands 134 = .ok (.iadd, 1) := dk_96 (dk_at dksX17_stands_5 15 rfl rfl)
theorem dX17_stands_135 : decode cX17_stands 135 = .ok (.iaload, 1) := dk_46 (dk_at dksX17_stands_5 16 rfl rfl)
theorem dX17_stands_136 : decode cX17_stands 136 = .ok (.iadd, 1) := dk_96 (dk_at dksX17_stands_5 17 rfl rfl)
theorem dX17_stands_137 : decode cX17_stands 137 = .ok (.istore 4, 2) := dk_54 4 (dk_at dksX17_stands_5 18 rfl rfl)
theorem dX17_stands_139 : decode cX17_stands 139 = .ok (.iload 8, 2) := dk_21 8 (dk_at dksX17_stands_5 20 rfl rfl)
theorem dX17_stands_141 : decode cX17_stands 141 = .ok (.istore_n 2, 1) := dk_61 (dk_at dksX17_stands_5 22 rfl rfl)
theorem dX17_stands_142 : decode cX17_stands 142 = .ok (.iinc 7 1, 3) := dk_132 7 1 (dk_at dksX17_stands_6 0 rfl rfl)
theorem dX17_stands_145 : decode cX17_stands 145 = .ok (.goto (-100), 3) := dk_167 255 156 (dk_at dksX17_stands_6 3 rfl rfl)
theorem dX17_stands_148 : decode cX17_stands 148 = .ok (.iload 6, 2) := dk_21 6 (dk_at dksX17_stands_6 6 rfl rfl)
theorem dX17_stands_150 : decode cX17_stands 150 = .ok (.ifCond .eq 26, 3) := dk_153 0 26 (dk_at dksX17_stands_6 8 rfl rfl)
theorem dX17_stands_153 : decode cX17_stands 153 = .ok (.iload_n 3, 1) := dk_29 (dk_at dksX17_stands_6 11 rfl rfl)
theorem dX17_stands_154 : decode cX17_stands 154 = .ok (.aload_n 0, 1) := dk_42 (dk_at dksX17_stands_6 12 rfl rfl)
theorem dX17_stands_155 : decode cX17_stands 155 = .ok (.getfield 96, 3) := dk_180 0 96 (dk_at dksX17_stands_6 13 rfl rfl)
theorem dX17_stands_158 : decode cX17_stands 158 = .ok (.if_icmp .gt 18, 3) := dk_163 0 18 (dk_at dksX17_stands_6 16 rfl rfl)
theorem dX17_stands_161 : decode cX17_stands 161 = .ok (.iload 4, 2) := dk_21 4 (dk_at dksX17_stands_6 19 rfl rfl)
theorem dX17_stands_163 : decode cX17_stands 163 = .ok (.aload_n 0, 1) := dk_42 (dk_at dksX17_stands_6 21 rfl rfl)
theorem dX17_stands_164 : decode cX17_stands 164 = .ok (.getfield 53, 3) := dk_180 0 53 (dk_at dksX17_stands_7 0 rfl rfl)
theorem dX17_stands_167 : decode cX17_stands 167 = .ok (.iload_n 1, 1) := dk_27 (dk_at dksX17_stands_7 3 rfl rfl)
theorem dX17_stands_168 : decode cX17_stands 168 = .ok (.iaload, 1) := dk_46 (dk_at dksX17_stands_7 4 rfl rfl)
theorem dX17_stands_169 : decode cX17_stands 169 = .ok (.if_icmp .ne 7, 3) := dk_160 0 7 (dk_at dksX17_stands_7 5 rfl rfl)
theorem dX17_stands_172 : decode cX17_stands 172 = .ok (.iconst 1, 1) := dk_4 (dk_at dksX17_stands_7 8 rfl rfl)
theorem dX17_stands_173 : decode cX17_stands 173 = .ok (.goto 4, 3) := dk_167 0 4 (dk_at dksX17_stands_7 9 rfl rfl)
theorem dX17_stands_176 : decode cX17_stands 176 = .ok (.iconst 0, 1) := dk_3 (dk_at dksX17_stands_7 12 rfl rfl)
theorem dX17_stands_177 : decode cX17_stands 177 = .ok (.ireturn, 1) := dk_172 (dk_at dksX17_stands_7 13 rfl rfl)
abbrev cX17_labelsClosed : ByteArray := prog_36_method_33_code
def yX17_labelsClosed : MethodName := ⟨RX17, "labelsClosed", "()Z"⟩
def dkwX17_labelsClosed_2 : List UInt8 := [60, 29, 4, 100, 42, 180, 0, 47, 28, 46, 126, 62, 167, 255, 231, 132, 2, 1, 167, 255, 197, 27, 172]
abbrev dktX17_labelsClosed_2 : List UInt8 := dkwX17_labelsClosed_2 ++ []
def dkwX17_labelsClosed_1 : List UInt8 := [46, 4, 100, 42, 180, 0, 47, 28, 46, 126, 62, 29, 158, 0, 27, 27, 153, 0, 23, 42, 29, 182, 0, 250]
abbrev dktX17_labelsClosed_1 : List UInt8 := dkwX17_labelsClosed_1 ++ dktX17_labelsClosed_2
def dkwX17_labelsClosed_0 : List UInt8 := [42, 180, 0, 156, 60, 3, 61, 28, 42, 180, 0, 163, 162, 0, 57, 27, 153, 0, 53, 42, 180, 0, 47, 28]
abbrev dktX17_labelsClosed_0 : List UInt8 := dkwX17_labelsClosed_0 ++ dktX17_labelsClosed_1
theorem dksX17_labelsClosed_0 : cX17_labelsClosed.data.toList.drop 0 = dktX17_labelsClosed_0 := by decide +kernel
theorem dksX17_labelsClosed_1 : cX17_labelsClosed.data.toList.drop 24 = dktX17_labelsClosed_1 := dk_seg dksX17_labelsClosed_0 24 rfl rfl
theorem dksX17_labelsClosed_2 : cX17_labelsClosed.data.toList.drop 48 = dktX17_labelsClosed_2 := dk_seg dksX17_labelsClosed_1 24 rfl rfl
theorem dX17_labelsClosed_0 : decode cX17_labelsClosed 0 = .ok (.aload_n 0, 1) := dk_42 (dk_at dksX17_labelsClosed_0 0 rfl rfl)
theorem dX17_labelsClosed_1 : decode cX17_labelsClosed 1 = .ok (.getfield 156, 3) := dk_180 0 156 (dk_at dksX17_labelsClosed_0 1 rfl rfl)
theorem dX17_labelsClosed_4 : decode cX17_labelsClosed 4 = .ok (.istore_n 1, 1) := dk_60 (dk_at dksX17_labelsClosed_0 4 rfl rfl)
theorem dX17_labelsClosed_5 : decode cX17_labelsClosed 5 = .ok (.iconst 0, 1) := dk_3 (dk_at dksX17_labelsClosed_0 5 rfl rfl)
theorem dX17_labelsClosed_6 : decode cX17_labelsClosed 6 = .ok (.istore_n 2, 1) := dk_61 (dk_at dksX17_labelsClosed_0 6 rfl rfl)
theorem dX17_labelsClosed_7 : decode cX17_labelsClosed 7 = .ok (.iload_n 2, 1) := dk_28 (dk_at dksX17_labelsClosed_0 7 rfl rfl)
theorem dX17_labelsClosed_8 : decode cX17_labelsClosed 8 = .ok (.aload_n 0, 1) := dk_42 (dk_at dksX17_labelsClosed_0 8 rfl rfl)
theorem dX17_labelsClosed_9 : decode cX17_labelsClosed 9 = .ok (.getfield 163, 3) := dk_180 0 163 (dk_at dksX17_labelsClosed_0 9 rfl rfl)
theorem dX17_labelsClosed_12 : decode cX17_labelsClosed 12 = .ok (.if_icmp .ge 57, 3) := dk_162 0 57 (dk_at dksX17_labelsClosed_0 12 rfl rfl)
theorem dX17_labelsClosed_15 : decode cX17_labelsClosed 15 = .ok (.iload_n 1, 1) := dk_27 (dk_at dksX17_labelsClosed_0 15 rfl rfl)
theorem dX17_labelsClosed_16 : decode cX17_labelsClosed 16 = .ok (.ifCond .eq 53, 3) := dk_153 0 53 (dk_at dksX17_labelsClosed_0 16 rfl rfl)
theorem dX17_labelsClosed_19 : decode cX17_labelsClosed 19 = .ok (.aload_n 0, 1) := dk_42 (dk_at dksX17_labelsClosed_0 19 rfl rfl)
theorem dX17_labelsClosed_20 : decode cX17_labelsClosed 20 = .ok (.getfield 47, 3) := dk_180 0 47 (dk_at dksX17_labelsClosed_0 20 rfl rfl)
theorem dX17_labelsClosed_23 : decode cX17_labelsClosed 23 = .ok (.iload_n 2, 1) := dk_28 (dk_at dksX17_labelsClosed_0 23 rfl rfl)
theorem dX17_labelsClosed_24 : decode cX17_labelsClosed 24 = .ok (.iaload, 1) := dk_46 (dk_at dksX17_labelsClosed_1 0 rfl rfl)
theorem dX17_labelsClosed_25 : decode cX17_labelsClosed 25 = .ok (.iconst 1, 1) := dk_4 (dk_at dksX17_labelsClosed_1 1 rfl rfl)
theorem dX17_labelsClosed_26 : decode cX17_labelsClosed 26 = .ok (.isub, 1) := dk_100 (dk_at dksX17_labelsClosed_1 2 rfl rfl)
theorem dX17_labelsClosed_27 : decode cX17_labelsClosed 27 = .ok (.aload_n 0, 1) := dk_42 (dk_at dksX17_labelsClosed_1 3 rfl rfl)
theorem dX17_labelsClosed_28 : decode cX17_labelsClosed 28 = .ok (.getfield 47, 3) := dk_180 0 47 (dk_at dksX17_labelsClosed_1 4 rfl rfl)
theorem dX17_labelsClosed_31 : decode cX17_labelsClosed 31 = .ok (.iload_n 2, 1) := dk_28 (dk_at dksX17_labelsClosed_1 7 rfl rfl)
theorem dX17_labelsClosed_32 : decode cX17_labelsClosed 32 = .ok (.iaload, 1) := dk_46 (dk_at dksX17_labelsClosed_1 8 rfl rfl)
theorem dX17_labelsClosed_33 : decode cX17_labelsClosed 33 = .ok (.iand, 1) := dk_126 (dk_at dksX17_labelsClosed_1 9 rfl rfl)
theorem dX17_labelsClosed_34 : decode cX17_labelsClosed 34 = .ok (.istore_n 3, 1) := dk_62 (dk_at dksX17_labelsClosed_1 10 rfl rfl)
theorem dX17_labelsClosed_35 : decode cX17_labelsClosed 35 = .ok (.iload_n 3, 1) := dk_29 (dk_at dksX17_labelsClosed_1 11 rfl rfl)
theorem dX17_labelsClosed_36 : decode cX17_labelsClosed 36 = .ok (.ifCond .le 27, 3) := dk_158 0 27 (dk_at dksX17_labelsClosed_1 12 rfl rfl)
theorem dX17_labelsClosed_39 : decode cX17_labelsClosed 39 = .ok (.iload_n 1, 1) := dk_27 (dk_at dksX17_labelsClosed_1 15 rfl rfl)
theorem dX17_labelsClosed_40 : decode cX17_labelsClosed 40 = .ok (.ifCond .eq 23, 3) := dk_153 0 23 (dk_at dksX17_labelsClosed_1 16 rfl rfl)
theorem dX17_labelsClosed_43 : decode cX17_labelsClosed 43 = .ok (.aload_n 0, 1) := dk_42 (dk_at dksX17_labelsClosed_1 19 rfl rfl)
theorem dX17_labelsClosed_44 : decode cX17_labelsClosed 44 = .ok (.iload_n 3, 1) := dk_29 (dk_at dksX17_labelsClosed_1 20 rfl rfl)
theorem dX17_labelsClosed_45 : decode cX17_labelsClosed 45 = .ok (.invokevirtual 250, 3) := dk_182 0 250 (dk_at dksX17_labelsClosed_1 21 rfl rfl)
theorem dX17_labelsClosed_48 : decode cX17_labelsClosed 48 = .ok (.istore_n 1, 1) := dk_60 (dk_at dksX17_labelsClosed_2 0 rfl rfl)
theorem dX17_labelsClosed_49 : decode cX17_labelsClosed 49 = .ok (.iload_n 3, 1) := dk_29 (dk_at dksX17_labelsClosed_2 1 rfl rfl)
theorem dX17_labelsClosed_50 : decode cX17_labelsClosed 50 = .ok (.iconst 1, 1) := dk_4 (dk_at dksX17_labelsClosed_2 2 rfl rfl)
theorem dX17_labelsClosed_51 : decode cX17_labelsClosed 51 = .ok (.isub, 1) := dk_100 (dk_at dksX17_labelsClosed_2 3 rfl rfl)
theorem dX17_labelsClosed_52 : decode cX17_labelsClosed 52 = .ok (.aload_n 0, 1) := dk_42 (dk_at dksX17_labelsClosed_2 4 rfl rfl)
theorem dX17_labelsClosed_53 : decode cX17_labelsClosed 53 = .ok (.getfield 47, 3) := dk_180 0 47 (dk_at dksX17_labelsClosed_2 5 rfl rfl)
theorem dX17_labelsClosed_56 : decode cX17_labelsClosed 56 = .ok (.iload_n 2, 1) := dk_28 (dk_at dksX17_labelsClosed_2 8 rfl rfl)
theorem dX17_labelsClosed_57 : decode cX17_labelsClosed 57 = .ok (.iaload, 1) := dk_46 (dk_at dksX17_labelsClosed_2 9 rfl rfl)
theorem dX17_labelsClosed_58 : decode cX17_labelsClosed 58 = .ok (.iand, 1) := dk_126 (dk_at dksX17_labelsClosed_2 10 rfl rfl)
theorem dX17_labelsClosed_59 : decode cX17_labelsClosed 59 = .ok (.istore_n 3, 1) := dk_62 (dk_at dksX17_labelsClosed_2 11 rfl rfl)
theorem dX17_labelsClosed_60 : decode cX17_labelsClosed 60 = .ok (.goto (-25), 3) := dk_167 255 231 (dk_at dksX17_labelsClosed_2 12 rfl rfl)
theorem dX17_labelsClosed_63 : decode cX17_labelsClosed 63 = .ok (.iinc 2 1, 3) := dk_132 2 1 (dk_at dksX17_labelsClosed_2 15 rfl rfl)
theorem dX17_labelsClosed_66 : decode cX17_labelsClosed 66 = .ok (.goto (-59), 3) := dk_167 255 197 (dk_at dksX17_labelsClosed_2 18 rfl rfl)
theorem dX17_labelsClosed_69 : decode cX17_labelsClosed 69 = .ok (.iload_n 1, 1) := dk_27 (dk_at dksX17_labelsClosed_2 21 rfl rfl)
theorem dX17_labelsClosed_70 : decode cX17_labelsClosed 70 = .ok (.ireturn, 1) := dk_172 (dk_at dksX17_labelsClosed_2 22 rfl rfl)
abbrev cX17_isSet : ByteArray := prog_36_method_34_code
def yX17_isSet : MethodName := ⟨RX17, "isSet", "(I)Z"⟩
def dkwX17_isSet_1 : List UInt8 := [167, 255, 235, 28, 42, 180, 0, 163, 162, 0, 7, 4, 167, 0, 4, 3, 172]
abbrev dktX17_isSet_1 : List UInt8 := dkwX17_isSet_1 ++ []
def dkwX17_isSet_0 : List UInt8 := [3, 61, 28, 42, 180, 0, 163, 162, 0, 19, 42, 180, 0, 47, 28, 46, 27, 159, 0, 9, 132, 2, 1]
abbrev dktX17_isSet_0 : List UInt8 := dkwX17_isSet_0 ++ dktX17_isSet_1
theorem dksX17_isSet_0 : cX17_isSet.data.toList.drop 0 = dktX17_isSet_0 := by decide +kernel
theorem dksX17_isSet_1 : cX17_isSet.data.toList.drop 23 = dktX17_isSet_1 := dk_seg dksX17_isSet_0 23 rfl rfl
theorem dX17_isSet_0 : decode cX17_isSet 0 = .ok (.iconst 0, 1) := dk_3 (dk_at dksX17_isSet_0 0 rfl rfl)
theorem dX17_isSet_1 : decode cX17_isSet 1 = .ok (.istore_n 2, 1) := dk_61 (dk_at dksX17_isSet_0 1 rfl rfl)
theorem dX17_isSet_2 : decode cX17_isSet 2 = .ok (.iload_n 2, 1) := dk_28 (dk_at dksX17_isSet_0 2 rfl rfl)
theorem dX17_isSet_3 : decode cX17_isSet 3 = .ok (.aload_n 0, 1) := dk_42 (dk_at dksX17_isSet_0 3 rfl rfl)
theorem dX17_isSet_4 : decode cX17_isSet 4 = .ok (.getfield 163, 3) := dk_180 0 163 (dk_at dksX17_isSet_0 4 rfl rfl)
theorem dX17_isSet_7 : decode cX17_isSet 7 = .ok (.if_icmp .ge 19, 3) := dk_162 0 19 (dk_at dksX17_isSet_0 7 rfl rfl)
theorem dX17_isSet_10 : decode cX17_isSet 10 = .ok (.aload_n 0, 1) := dk_42 (dk_at dksX17_isSet_0 10 rfl rfl)
theorem dX17_isSet_11 : decode cX17_isSet 11 = .ok (.getfield 47, 3) := dk_180 0 47 (dk_at dksX17_isSet_0 11 rfl rfl)
theorem dX17_isSet_14 : decode cX17_isSet 14 = .ok (.iload_n 2, 1) := dk_28 (dk_at dksX17_isSet_0 14 rfl rfl)
theorem dX17_isSet_15 : decode cX17_isSet 15 = .ok (.iaload, 1) := dk_46 (dk_at dksX17_isSet_0 15 rfl rfl)
theorem dX17_isSet_16 : decode cX17_isSet 16 = .ok (.iload_n 1, 1) := dk_27 (dk_at dksX17_isSet_0 16 rfl rfl)
theorem dX17_isSet_17 : decode cX17_isSet 17 = .ok (.if_icmp .eq 9, 3) := dk_159 0 9 (dk_at dksX17_isSet_0 17 rfl rfl)
theorem dX17_isSet_20 : decode cX17_isSet 20 = .ok (.iinc 2 1, 3) := dk_132 2 1 (dk_at dksX17_isSet_0 20 rfl rfl)
theorem dX17_isSet_23 : decode cX17_isSet 23 = .ok (.goto (-21), 3) := dk_167 255 235 (dk_at dksX17_isSet_1 0 rfl rfl)
theorem dX17_isSet_26 : decode cX17_isSet 26 = .ok (.iload_n 2, 1) := dk_28 (dk_at dksX17_isSet_1 3 rfl rfl)
theorem dX17_isSet_27 : decode cX17_isSet 27 = .ok (.aload_n 0, 1) := dk_42 (dk_at dksX17_isSet_1 4 rfl rfl)
theorem dX17_isSet_28 : decode cX17_isSet 28 = .ok (.getfield 163, 3) := dk_180 0 163 (dk_at dksX17_isSet_1 5 rfl rfl)
theorem dX17_isSet_31 : decode cX17_isSet 31 = .ok (.if_icmp .ge 7, 3) := dk_162 0 7 (dk_at dksX17_isSet_1 8 rfl rfl)
theorem dX17_isSet_34 : decode cX17_isSet 34 = .ok (.iconst 1, 1) := dk_4 (dk_at dksX17_isSet_1 11 rfl rfl)
theorem dX17_isSet_35 : decode cX17_isSet 35 = .ok (.goto 4, 3) := dk_167 0 4 (dk_at dksX17_isSet_1 12 rfl rfl)
theorem dX17_isSet_38 : decode cX17_isSet 38 = .ok (.iconst 0, 1) := dk_3 (dk_at dksX17_isSet_1 15 rfl rfl)
theorem dX17_isSet_39 : decode cX17_isSet 39 = .ok (.ireturn, 1) := dk_172 (dk_at dksX17_isSet_1 16 rfl rfl)
theorem q416 : (Jvm.Cond.initialized "WasteHouse$RoundColumns") ∈ lw_all := lw_g (lw_at lw_m1 24 rfl) rfl
theorem q1138 : (Jvm.Cond.instantiable "WasteHouse$RoundColumns" (28 : Nat)) ∈ lw_all := lw_g (lw_at lw_m4 26 rfl) rfl
theorem q1140 : (Jvm.Cond.instanceMethod ({ cls := "WasteHouse$RoundColumns", name := "<init>", desc := "()V" } : Jvm.MethodName)) ∈ lw_all := lw_g (lw_at lw_m4 28 rfl) rfl
theorem q1141 : (Jvm.Cond.code ({ cls := "WasteHouse$RoundColumns", name := "<init>", desc := "()V" } : Jvm.MethodName) prog_36_method_1_code (2 : Nat) (Option.none : Option Jvm.ClassFile.FieldType)) ∈ lw_all := lw_g (lw_at lw_m4 29 rfl) rfl
theorem q1142 : (Jvm.Cond.methodLink "WasteHouse$RoundColumns" (1 : Nat) ({ cls := "java/lang/Object", name := "<init>", desc := "()V" } : Jvm.MethodName)) ∈ lw_all := lw_g (lw_at lw_m4 30 rfl) rfl
theorem q1143 : (Jvm.Cond.classLink "WasteHouse$RoundColumns" (26 : Nat) "WasteHouse$RoundColumns$Rows") ∈ lw_all := lw_g (lw_at lw_m4 31 rfl) rfl
theorem q1145 : (Jvm.Cond.methodLinkNest "WasteHouse$RoundColumns" (28 : Nat) ({ cls := "WasteHouse$RoundColumns$Rows", name := "<init>", desc := "()V" } : Jvm.MethodName) "WasteHouse") ∈ lw_tbl := lw_at lw_m4 33 rfl
theorem q1150 : (Jvm.Cond.fieldLinkNest "WasteHouse$RoundColumns" (127 : Nat) "WasteHouse$RoundColumns$Rows" "codes" "[I" "WasteHouse") ∈ lw_tbl := lw_at lw_m4 38 rfl
theorem q1152 : (Jvm.Cond.fieldLinkNest "WasteHouse$RoundColumns" (126 : Nat) "WasteHouse$RoundColumns$Rows" "costs" "[I" "WasteHouse") ∈ lw_tbl := lw_at lw_m4 40 rfl
theorem q1154 : (Jvm.Cond.fieldLinkNest "WasteHouse$RoundColumns" (123 : Nat) "WasteHouse$RoundColumns$Rows" "times" "[I" "WasteHouse") ∈ lw_tbl := lw_at lw_m4 42 rfl
theorem q1156 : (Jvm.Cond.fieldLinkNest "WasteHouse$RoundColumns" (142 : Nat) "WasteHouse$RoundColumns$Rows" "nexts" "[I" "WasteHouse") ∈ lw_tbl := lw_at lw_m4 44 rfl
theorem q1172 : (Jvm.Cond.classLink "WasteHouse$RoundColumns" (33 : Nat) "WasteHouse$RoundColumns$Corner") ∈ lw_all := lw_g (lw_at lw_m4 60 rfl) rfl
theorem q1174 : (Jvm.Cond.methodLinkNest "WasteHouse$RoundColumns" (35 : Nat) ({ cls := "WasteHouse$RoundColumns$Corner", name := "<init>", desc := "()V" } : Jvm.MethodName) "WasteHouse") ∈ lw_tbl := lw_at lw_m4 62 rfl
theorem q1198 : (Jvm.Cond.classLink "WasteHouse$RoundColumns" (65 : Nat) "WasteHouse$RoundColumns$Ratio") ∈ lw_all := lw_g (lw_at lw_m4 86 rfl) rfl
theorem q1200 : (Jvm.Cond.methodLinkNest "WasteHouse$RoundColumns" (67 : Nat) ({ cls := "WasteHouse$RoundColumns$Ratio", name := "<init>", desc := "()V" } : Jvm.MethodName) "WasteHouse") ∈ lw_tbl := lw_at lw_m4 88 rfl
theorem q1205 : (Jvm.Cond.fieldLink "WasteHouse$RoundColumns" (218 : Nat) "WasteHouse$RoundColumns$Ratio" "above" "J") ∈ lw_all := lw_g (lw_at lw_m4 93 rfl) rfl
theorem q1207 : (Jvm.Cond.fieldLink "WasteHouse$RoundColumns" (227 : Nat) "WasteHouse$RoundColumns$Ratio" "below" "J") ∈ lw_all := lw_g (lw_at lw_m4 95 rfl) rfl
theorem q1213 : (Jvm.Cond.fieldLink "WasteHouse$RoundColumns" (7 : Nat) "WasteHouse$RoundColumns" "kilograms" "[I") ∈ lw_all := lw_g (lw_at lw_m4 101 rfl) rfl
theorem q1214 : (Jvm.Cond.fieldLink "WasteHouse$RoundColumns" (13 : Nat) "WasteHouse$RoundColumns" "seconds" "[I") ∈ lw_all := lw_g (lw_at lw_m4 102 rfl) rfl
theorem q1215 : (Jvm.Cond.fieldLink "WasteHouse$RoundColumns" (75 : Nat) "WasteHouse$RoundColumns" "bins" "I") ∈ lw_all := lw_g (lw_at lw_m4 103 rfl) rfl
theorem q1216 : (Jvm.Cond.fieldLink "WasteHouse$RoundColumns" (16 : Nat) "WasteHouse$RoundColumns" "wayTimes" "[I") ∈ lw_all := lw_g (lw_at lw_m4 104 rfl) rfl
theorem q1217 : (Jvm.Cond.fieldLink "WasteHouse$RoundColumns" (19 : Nat) "WasteHouse$RoundColumns" "wayCosts" "[I") ∈ lw_all := lw_g (lw_at lw_m4 105 rfl) rfl
theorem q1218 : (Jvm.Cond.fieldLink "WasteHouse$RoundColumns" (93 : Nat) "WasteHouse$RoundColumns" "load" "I") ∈ lw_all := lw_g (lw_at lw_m4 106 rfl) rfl
theorem q1219 : (Jvm.Cond.fieldLink "WasteHouse$RoundColumns" (96 : Nat) "WasteHouse$RoundColumns" "mostSeconds" "I") ∈ lw_all := lw_g (lw_at lw_m4 107 rfl) rfl
theorem q1220 : (Jvm.Cond.fieldLink "WasteHouse$RoundColumns" (99 : Nat) "WasteHouse$RoundColumns" "vehicles" "I") ∈ lw_all := lw_g (lw_at lw_m4 108 rfl) rfl
theorem q1221 : (Jvm.Cond.fieldLink "WasteHouse$RoundColumns" (22 : Nat) "WasteHouse$RoundColumns" "pairs" "[B") ∈ lw_all := lw_g (lw_at lw_m4 109 rfl) rfl
theorem q1222 : (Jvm.Cond.fieldLink "WasteHouse$RoundColumns" (29 : Nat) "WasteHouse$RoundColumns" "rows" "LWasteHouse$RoundColumns$Rows;") ∈ lw_all := lw_g (lw_at lw_m4 110 rfl) rfl
theorem q1223 : (Jvm.Cond.fieldLink "WasteHouse$RoundColumns" (36 : Nat) "WasteHouse$RoundColumns" "corner" "LWasteHouse$RoundColumns$Corner;") ∈ lw_all := lw_g (lw_at lw_m4 111 rfl) rfl
theorem q1224 : (Jvm.Cond.fieldLink "WasteHouse$RoundColumns" (156 : Nat) "WasteHouse$RoundColumns" "hasRun" "Z") ∈ lw_all := lw_g (lw_at lw_m4 112 rfl) rfl
theorem q1225 : (Jvm.Cond.fieldLink "WasteHouse$RoundColumns" (160 : Nat) "WasteHouse$RoundColumns" "labels" "I") ∈ lw_all := lw_g (lw_at lw_m4 113 rfl) rfl
theorem q1226 : (Jvm.Cond.fieldLink "WasteHouse$RoundColumns" (40 : Nat) "WasteHouse$RoundColumns" "labelSets" "[I") ∈ lw_all := lw_g (lw_at lw_m4 114 rfl) rfl
theorem q1227 : (Jvm.Cond.fieldLink "WasteHouse$RoundColumns" (43 : Nat) "WasteHouse$RoundColumns" "leadsOn" "[Z") ∈ lw_all := lw_g (lw_at lw_m4 115 rfl) rfl
theorem q1228 : (Jvm.Cond.fieldLink "WasteHouse$RoundColumns" (163 : Nat) "WasteHouse$RoundColumns" "columns" "I") ∈ lw_all := lw_g (lw_at lw_m4 116 rfl) rfl
theorem q1229 : (Jvm.Cond.fieldLink "WasteHouse$RoundColumns" (47 : Nat) "WasteHouse$RoundColumns" "sets" "[I") ∈ lw_all := lw_g (lw_at lw_m4 117 rfl) rfl
theorem q1230 : (Jvm.Cond.fieldLink "WasteHouse$RoundColumns" (50 : Nat) "WasteHouse$RoundColumns" "codes" "[I") ∈ lw_all := lw_g (lw_at lw_m4 118 rfl) rfl
theorem q1231 : (Jvm.Cond.fieldLink "WasteHouse$RoundColumns" (53 : Nat) "WasteHouse$RoundColumns" "costs" "[I") ∈ lw_all := lw_g (lw_at lw_m4 119 rfl) rfl
theorem q1232 : (Jvm.Cond.fieldLink "WasteHouse$RoundColumns" (56 : Nat) "WasteHouse$RoundColumns" "barred" "[Z") ∈ lw_all := lw_g (lw_at lw_m4 120 rfl) rfl
theorem q1233 : (Jvm.Cond.fieldLink "WasteHouse$RoundColumns" (59 : Nat) "WasteHouse$RoundColumns" "loads" "[I") ∈ lw_all := lw_g (lw_at lw_m4 121 rfl) rfl
theorem q1235 : (Jvm.Cond.fieldLink "WasteHouse$RoundColumns" (62 : Nat) "WasteHouse$RoundColumns" "cutSets" "[I") ∈ lw_all := lw_g (lw_at lw_m4 123 rfl) rfl
theorem q1236 : (Jvm.Cond.fieldLink "WasteHouse$RoundColumns" (193 : Nat) "WasteHouse$RoundColumns" "cuts" "I") ∈ lw_all := lw_g (lw_at lw_m4 124 rfl) rfl
theorem q1237 : (Jvm.Cond.fieldLink "WasteHouse$RoundColumns" (166 : Nat) "WasteHouse$RoundColumns" "loadThen" "I") ∈ lw_all := lw_g (lw_at lw_m4 125 rfl) rfl
theorem q1238 : (Jvm.Cond.fieldLink "WasteHouse$RoundColumns" (169 : Nat) "WasteHouse$RoundColumns" "vehiclesThen" "I") ∈ lw_all := lw_g (lw_at lw_m4 126 rfl) rfl
theorem q1239 : (Jvm.Cond.fieldLink "WasteHouse$RoundColumns" (172 : Nat) "WasteHouse$RoundColumns" "binsThen" "I") ∈ lw_all := lw_g (lw_at lw_m4 127 rfl) rfl
theorem q1240 : (Jvm.Cond.fieldLink "WasteHouse$RoundColumns" (68 : Nat) "WasteHouse$RoundColumns" "bound" "LWasteHouse$RoundColumns$Ratio;") ∈ lw_all := lw_g (lw_at lw_m4 128 rfl) rfl
theorem q1241 : (Jvm.Cond.fieldLink "WasteHouse$RoundColumns" (72 : Nat) "WasteHouse$RoundColumns" "ratio" "LWasteHouse$RoundColumns$Ratio;") ∈ lw_all := lw_g (lw_at lw_m4 129 rfl) rfl
theorem q1242 : (Jvm.Cond.laysFinal "WasteHouse$RoundColumns" "WasteHouse$RoundColumns" "kilograms" "[I") ∈ lw_all := lw_g (lw_at lw_m4 130 rfl) rfl
theorem q1243 : (Jvm.Cond.soleField "WasteHouse$RoundColumns" "kilograms") ∈ lw_all := lw_g (lw_at lw_m4 131 rfl) rfl
theorem q1244 : (Jvm.Cond.laysFinal "WasteHouse$RoundColumns" "WasteHouse$RoundColumns" "seconds" "[I") ∈ lw_all := lw_g (lw_at lw_m4 132 rfl) rfl
theorem q1245 : (Jvm.Cond.soleField "WasteHouse$RoundColumns" "seconds") ∈ lw_all := lw_g (lw_at lw_m4 133 rfl) rfl
theorem q1246 : (Jvm.Cond.lays "WasteHouse$RoundColumns" "WasteHouse$RoundColumns" "bins" "I") ∈ lw_all := lw_g (lw_at lw_m4 134 rfl) rfl
theorem q1247 : (Jvm.Cond.soleField "WasteHouse$RoundColumns" "bins") ∈ lw_all := lw_g (lw_at lw_m4 135 rfl) rfl
theorem q1248 : (Jvm.Cond.laysFinal "WasteHouse$RoundColumns" "WasteHouse$RoundColumns" "wayTimes" "[I") ∈ lw_all := lw_g (lw_at lw_m4 136 rfl) rfl
theorem q1249 : (Jvm.Cond.soleField "WasteHouse$RoundColumns" "wayTimes") ∈ lw_all := lw_g (lw_at lw_m4 137 rfl) rfl
theorem q1250 : (Jvm.Cond.laysFinal "WasteHouse$RoundColumns" "WasteHouse$RoundColumns" "wayCosts" "[I") ∈ lw_all := lw_g (lw_at lw_m4 138 rfl) rfl
theorem q1251 : (Jvm.Cond.soleField "WasteHouse$RoundColumns" "wayCosts") ∈ lw_all := lw_g (lw_at lw_m4 139 rfl) rfl
theorem q1252 : (Jvm.Cond.lays "WasteHouse$RoundColumns" "WasteHouse$RoundColumns" "load" "I") ∈ lw_all := lw_g (lw_at lw_m4 140 rfl) rfl
theorem q1253 : (Jvm.Cond.soleField "WasteHouse$RoundColumns" "load") ∈ lw_all := lw_g (lw_at lw_m4 141 rfl) rfl
theorem q1254 : (Jvm.Cond.lays "WasteHouse$RoundColumns" "WasteHouse$RoundColumns" "mostSeconds" "I") ∈ lw_all := lw_g (lw_at lw_m4 142 rfl) rfl
theorem q1255 : (Jvm.Cond.soleField "WasteHouse$RoundColumns" "mostSeconds") ∈ lw_all := lw_g (lw_at lw_m4 143 rfl) rfl
theorem q1256 : (Jvm.Cond.lays "WasteHouse$RoundColumns" "WasteHouse$RoundColumns" "vehicles" "I") ∈ lw_all := lw_g (lw_at lw_m4 144 rfl) rfl
theorem q1257 : (Jvm.Cond.soleField "WasteHouse$RoundColumns" "vehicles") ∈ lw_all := lw_g (lw_at lw_m4 145 rfl) rfl
theorem q1258 : (Jvm.Cond.laysFinal "WasteHouse$RoundColumns" "WasteHouse$RoundColumns" "pairs" "[B") ∈ lw_all := lw_g (lw_at lw_m4 146 rfl) rfl
theorem q1259 : (Jvm.Cond.soleField "WasteHouse$RoundColumns" "pairs") ∈ lw_all := lw_g (lw_at lw_m4 147 rfl) rfl
theorem q1260 : (Jvm.Cond.laysFinal "WasteHouse$RoundColumns" "WasteHouse$RoundColumns" "rows" "LWasteHouse$RoundColumns$Rows;") ∈ lw_all := lw_g (lw_at lw_m4 148 rfl) rfl
theorem q1261 : (Jvm.Cond.soleField "WasteHouse$RoundColumns" "rows") ∈ lw_all := lw_g (lw_at lw_m4 149 rfl) rfl
theorem q1262 : (Jvm.Cond.laysFinal "WasteHouse$RoundColumns" "WasteHouse$RoundColumns" "corner" "LWasteHouse$RoundColumns$Corner;") ∈ lw_all := lw_g (lw_at lw_m4 150 rfl) rfl
theorem q1263 : (Jvm.Cond.soleField "WasteHouse$RoundColumns" "corner") ∈ lw_all := lw_g (lw_at lw_m4 151 rfl) rfl
theorem q1264 : (Jvm.Cond.lays "WasteHouse$RoundColumns" "WasteHouse$RoundColumns" "hasRun" "Z") ∈ lw_all := lw_g (lw_at lw_m4 152 rfl) rfl
theorem q1265 : (Jvm.Cond.soleField "WasteHouse$RoundColumns" "hasRun") ∈ lw_all := lw_g (lw_at lw_m4 153 rfl) rfl
theorem q1266 : (Jvm.Cond.lays "WasteHouse$RoundColumns" "WasteHouse$RoundColumns" "labels" "I") ∈ lw_all := lw_g (lw_at lw_m4 154 rfl) rfl
theorem q1267 : (Jvm.Cond.soleField "WasteHouse$RoundColumns" "labels") ∈ lw_all := lw_g (lw_at lw_m4 155 rfl) rfl
theorem q1268 : (Jvm.Cond.laysFinal "WasteHouse$RoundColumns" "WasteHouse$RoundColumns" "labelSets" "[I") ∈ lw_all := lw_g (lw_at lw_m4 156 rfl) rfl
theorem q1269 : (Jvm.Cond.soleField "WasteHouse$RoundColumns" "labelSets") ∈ lw_all := lw_g (lw_at lw_m4 157 rfl) rfl
theorem q1270 : (Jvm.Cond.laysFinal "WasteHouse$RoundColumns" "WasteHouse$RoundColumns" "leadsOn" "[Z") ∈ lw_all := lw_g (lw_at lw_m4 158 rfl) rfl
theorem q1271 : (Jvm.Cond.soleField "WasteHouse$RoundColumns" "leadsOn") ∈ lw_all := lw_g (lw_at lw_m4 159 rfl) rfl
theorem q1272 : (Jvm.Cond.lays "WasteHouse$RoundColumns" "WasteHouse$RoundColumns" "columns" "I") ∈ lw_all := lw_g (lw_at lw_m4 160 rfl) rfl
theorem q1273 : (Jvm.Cond.soleField "WasteHouse$RoundColumns" "columns") ∈ lw_all := lw_g (lw_at lw_m4 161 rfl) rfl
theorem q1274 : (Jvm.Cond.laysFinal "WasteHouse$RoundColumns" "WasteHouse$RoundColumns" "sets" "[I") ∈ lw_all := lw_g (lw_at lw_m4 162 rfl) rfl
theorem q1275 : (Jvm.Cond.soleField "WasteHouse$RoundColumns" "sets") ∈ lw_all := lw_g (lw_at lw_m4 163 rfl) rfl
theorem q1276 : (Jvm.Cond.laysFinal "WasteHouse$RoundColumns" "WasteHouse$RoundColumns" "codes" "[I") ∈ lw_all := lw_g (lw_at lw_m4 164 rfl) rfl
theorem q1277 : (Jvm.Cond.soleField "WasteHouse$RoundColumns" "codes") ∈ lw_all := lw_g (lw_at lw_m4 165 rfl) rfl
theorem q1278 : (Jvm.Cond.laysFinal "WasteHouse$RoundColumns" "WasteHouse$RoundColumns" "costs" "[I") ∈ lw_all := lw_g (lw_at lw_m4 166 rfl) rfl
theorem q1279 : (Jvm.Cond.soleField "WasteHouse$RoundColumns" "costs") ∈ lw_all := lw_g (lw_at lw_m4 167 rfl) rfl
theorem q1280 : (Jvm.Cond.laysFinal "WasteHouse$RoundColumns" "WasteHouse$RoundColumns" "barred" "[Z") ∈ lw_all := lw_g (lw_at lw_m4 168 rfl) rfl
theorem q1281 : (Jvm.Cond.soleField "WasteHouse$RoundColumns" "barred") ∈ lw_all := lw_g (lw_at lw_m4 169 rfl) rfl
theorem q1282 : (Jvm.Cond.laysFinal "WasteHouse$RoundColumns" "WasteHouse$RoundColumns" "loads" "[I") ∈ lw_all := lw_g (lw_at lw_m4 170 rfl) rfl
theorem q1283 : (Jvm.Cond.soleField "WasteHouse$RoundColumns" "loads") ∈ lw_all := lw_g (lw_at lw_m4 171 rfl) rfl
theorem q1284 : (Jvm.Cond.laysFinal "WasteHouse$RoundColumns" "WasteHouse$RoundColumns" "cutSets" "[I") ∈ lw_all := lw_g (lw_at lw_m4 172 rfl) rfl
theorem q1285 : (Jvm.Cond.soleField "WasteHouse$RoundColumns" "cutSets") ∈ lw_all := lw_g (lw_at lw_m4 173 rfl) rfl
theorem q1286 : (Jvm.Cond.lays "WasteHouse$RoundColumns" "WasteHouse$RoundColumns" "cuts" "I") ∈ lw_all := lw_g (lw_at lw_m4 174 rfl) rfl
theorem q1287 : (Jvm.Cond.soleField "WasteHouse$RoundColumns" "cuts") ∈ lw_all := lw_g (lw_at lw_m4 175 rfl) rfl
theorem q1288 : (Jvm.Cond.lays "WasteHouse$RoundColumns" "WasteHouse$RoundColumns" "loadThen" "I") ∈ lw_all := lw_g (lw_at lw_m4 176 rfl) rfl
theorem q1289 : (Jvm.Cond.soleField "WasteHouse$RoundColumns" "loadThen") ∈ lw_all := lw_g (lw_at lw_m4 177 rfl) rfl
theorem q1290 : (Jvm.Cond.lays "WasteHouse$RoundColumns" "WasteHouse$RoundColumns" "vehiclesThen" "I") ∈ lw_all := lw_g (lw_at lw_m4 178 rfl) rfl
theorem q1291 : (Jvm.Cond.soleField "WasteHouse$RoundColumns" "vehiclesThen") ∈ lw_all := lw_g (lw_at lw_m4 179 rfl) rfl
theorem q1292 : (Jvm.Cond.lays "WasteHouse$RoundColumns" "WasteHouse$RoundColumns" "binsThen" "I") ∈ lw_all := lw_g (lw_at lw_m4 180 rfl) rfl
theorem q1293 : (Jvm.Cond.soleField "WasteHouse$RoundColumns" "binsThen") ∈ lw_all := lw_g (lw_at lw_m4 181 rfl) rfl
theorem q1294 : (Jvm.Cond.laysFinal "WasteHouse$RoundColumns" "WasteHouse$RoundColumns" "bound" "LWasteHouse$RoundColumns$Ratio;") ∈ lw_all := lw_g (lw_at lw_m4 182 rfl) rfl
theorem q1295 : (Jvm.Cond.soleField "WasteHouse$RoundColumns" "bound") ∈ lw_all := lw_g (lw_at lw_m4 183 rfl) rfl
theorem q1296 : (Jvm.Cond.laysFinal "WasteHouse$RoundColumns" "WasteHouse$RoundColumns" "ratio" "LWasteHouse$RoundColumns$Ratio;") ∈ lw_all := lw_g (lw_at lw_m4 184 rfl) rfl
theorem q1297 : (Jvm.Cond.soleField "WasteHouse$RoundColumns" "ratio") ∈ lw_all := lw_g (lw_at lw_m4 185 rfl) rfl
theorem q1298 : (Jvm.Cond.superclass "WasteHouse$RoundColumns" "java/lang/Object") ∈ lw_all := lw_g (lw_at lw_m4 186 rfl) rfl
theorem q2005 : (Jvm.Cond.selects "WasteHouse$RoundColumns" ({ cls := "java/lang/Object", name := "getClass", desc := "()Ljava/lang/Class;" } : Jvm.MethodName) ({ cls := "java/lang/Object", name := "getClass", desc := "()Ljava/lang/Class;" } : Jvm.MethodName)) ∈ lw_all := lw_g (lw_at lw_m7 173 rfl) rfl
theorem q3115 : (Jvm.Cond.selects "WasteHouse$RoundColumns" ({ cls := "java/lang/Object", name := "equals", desc := "(Ljava/lang/Object;)Z" } : Jvm.MethodName) ({ cls := "java/lang/Object", name := "equals", desc := "(Ljava/lang/Object;)Z" } : Jvm.MethodName)) ∈ lw_all := lw_g (lw_at lw_m12 83 rfl) rfl
theorem q3633 : (Jvm.Cond.selects "WasteHouse$RoundColumns" ({ cls := "java/lang/Object", name := "hashCode", desc := "()I" } : Jvm.MethodName) ({ cls := "java/lang/Object", name := "hashCode", desc := "()I" } : Jvm.MethodName)) ∈ lw_all := lw_g (lw_at lw_m14 121 rfl) rfl
theorem q5057 : (Jvm.Cond.privateMethod ({ cls := "WasteHouse$RoundColumns", name := "isColumn", desc := "(I)Z" } : Jvm.MethodName)) ∈ lw_tbl := lw_at lw_m20 105 rfl
theorem q5058 : (Jvm.Cond.instanceMethod ({ cls := "WasteHouse$RoundColumns", name := "isColumn", desc := "(I)Z" } : Jvm.MethodName)) ∈ lw_all := lw_g (lw_at lw_m20 106 rfl) rfl
theorem q5059 : (Jvm.Cond.code ({ cls := "WasteHouse$RoundColumns", name := "isColumn", desc := "(I)Z" } : Jvm.MethodName) prog_36_method_22_code (2 : Nat) (Option.some Jvm.ClassFile.FieldType.boolean)) ∈ lw_all := lw_g (lw_at lw_m20 107 rfl) rfl
theorem q6037 : (Jvm.Cond.instanceMethod ({ cls := "WasteHouse$RoundColumns", name := "bin", desc := "(JI)I" } : Jvm.MethodName)) ∈ lw_all := lw_g (lw_at lw_m24 125 rfl) rfl
theorem q6038 : (Jvm.Cond.selects "WasteHouse$RoundColumns" ({ cls := "WasteHouse$RoundColumns", name := "bin", desc := "(JI)I" } : Jvm.MethodName) ({ cls := "WasteHouse$RoundColumns", name := "bin", desc := "(JI)I" } : Jvm.MethodName)) ∈ lw_all := lw_g (lw_at lw_m24 126 rfl) rfl
theorem q6039 : (Jvm.Cond.code ({ cls := "WasteHouse$RoundColumns", name := "bin", desc := "(JI)I" } : Jvm.MethodName) prog_36_method_4_code (4 : Nat) (Option.some Jvm.ClassFile.FieldType.int)) ∈ lw_all := lw_g (lw_at lw_m24 127 rfl) rfl
theorem q6040 : (Jvm.Cond.constantLong "WasteHouse$RoundColumns" (79 : Nat) (1000 : Int64)) ∈ lw_all := lw_g (lw_at lw_m24 128 rfl) rfl
theorem q6041 : (Jvm.Cond.methodLink "WasteHouse$RoundColumns" (81 : Nat) ({ cls := "WasteHouse$RoundColumns", name := "isIn", desc := "(JJ)Z" } : Jvm.MethodName)) ∈ lw_all := lw_g (lw_at lw_m24 129 rfl) rfl
theorem q6042 : (Jvm.Cond.static ({ cls := "WasteHouse$RoundColumns", name := "isIn", desc := "(JJ)Z" } : Jvm.MethodName)) ∈ lw_all := lw_g (lw_at lw_m24 130 rfl) rfl
theorem q6043 : (Jvm.Cond.code ({ cls := "WasteHouse$RoundColumns", name := "isIn", desc := "(JJ)Z" } : Jvm.MethodName) prog_36_method_2_code (4 : Nat) (Option.some Jvm.ClassFile.FieldType.boolean)) ∈ lw_all := lw_g (lw_at lw_m24 131 rfl) rfl
theorem q6045 : (Jvm.Cond.instanceMethod ({ cls := "WasteHouse$RoundColumns", name := "way", desc := "(IIIJ)Z" } : Jvm.MethodName)) ∈ lw_all := lw_g (lw_at lw_m24 133 rfl) rfl
theorem q6046 : (Jvm.Cond.selects "WasteHouse$RoundColumns" ({ cls := "WasteHouse$RoundColumns", name := "way", desc := "(IIIJ)Z" } : Jvm.MethodName) ({ cls := "WasteHouse$RoundColumns", name := "way", desc := "(IIIJ)Z" } : Jvm.MethodName)) ∈ lw_all := lw_g (lw_at lw_m24 134 rfl) rfl
theorem q6047 : (Jvm.Cond.code ({ cls := "WasteHouse$RoundColumns", name := "way", desc := "(IIIJ)Z" } : Jvm.MethodName) prog_36_method_5_code (6 : Nat) (Option.some Jvm.ClassFile.FieldType.boolean)) ∈ lw_all := lw_g (lw_at lw_m24 135 rfl) rfl
theorem q6048 : (Jvm.Cond.constantLong "WasteHouse$RoundColumns" (85 : Nat) (2000 : Int64)) ∈ lw_all := lw_g (lw_at lw_m24 136 rfl) rfl
theorem q6052 : (Jvm.Cond.instanceMethod ({ cls := "WasteHouse$RoundColumns", name := "vehicle", desc := "(JII)Z" } : Jvm.MethodName)) ∈ lw_all := lw_g (lw_at lw_m24 140 rfl) rfl
theorem q6053 : (Jvm.Cond.selects "WasteHouse$RoundColumns" ({ cls := "WasteHouse$RoundColumns", name := "vehicle", desc := "(JII)Z" } : Jvm.MethodName) ({ cls := "WasteHouse$RoundColumns", name := "vehicle", desc := "(JII)Z" } : Jvm.MethodName)) ∈ lw_all := lw_g (lw_at lw_m24 141 rfl) rfl
theorem q6054 : (Jvm.Cond.code ({ cls := "WasteHouse$RoundColumns", name := "vehicle", desc := "(JII)Z" } : Jvm.MethodName) prog_36_method_6_code (5 : Nat) (Option.some Jvm.ClassFile.FieldType.boolean)) ∈ lw_all := lw_g (lw_at lw_m24 142 rfl) rfl
theorem q6055 : (Jvm.Cond.constantLong "WasteHouse$RoundColumns" (87 : Nat) (6000 : Int64)) ∈ lw_all := lw_g (lw_at lw_m24 143 rfl) rfl
theorem q6056 : (Jvm.Cond.constantLong "WasteHouse$RoundColumns" (89 : Nat) (20000 : Int64)) ∈ lw_all := lw_g (lw_at lw_m24 144 rfl) rfl
theorem q6057 : (Jvm.Cond.constantLong "WasteHouse$RoundColumns" (91 : Nat) (6 : Int64)) ∈ lw_all := lw_g (lw_at lw_m24 145 rfl) rfl
theorem q6059 : (Jvm.Cond.instanceMethod ({ cls := "WasteHouse$RoundColumns", name := "branch", desc := "(IIZ)Z" } : Jvm.MethodName)) ∈ lw_all := lw_g (lw_at lw_m24 147 rfl) rfl
theorem q6060 : (Jvm.Cond.selects "WasteHouse$RoundColumns" ({ cls := "WasteHouse$RoundColumns", name := "branch", desc := "(IIZ)Z" } : Jvm.MethodName) ({ cls := "WasteHouse$RoundColumns", name := "branch", desc := "(IIZ)Z" } : Jvm.MethodName)) ∈ lw_all := lw_g (lw_at lw_m24 148 rfl) rfl
theorem q6061 : (Jvm.Cond.code ({ cls := "WasteHouse$RoundColumns", name := "branch", desc := "(IIZ)Z" } : Jvm.MethodName) prog_36_method_7_code (4 : Nat) (Option.some Jvm.ClassFile.FieldType.boolean)) ∈ lw_all := lw_g (lw_at lw_m24 149 rfl) rfl
theorem q6062 : (Jvm.Cond.methodLink "WasteHouse$RoundColumns" (102 : Nat) ({ cls := "WasteHouse$RoundColumns", name := "isBin", desc := "(I)Z" } : Jvm.MethodName)) ∈ lw_all := lw_g (lw_at lw_m24 150 rfl) rfl
theorem q6063 : (Jvm.Cond.privateMethod ({ cls := "WasteHouse$RoundColumns", name := "isBin", desc := "(I)Z" } : Jvm.MethodName)) ∈ lw_tbl := lw_at lw_m24 151 rfl
theorem q6064 : (Jvm.Cond.instanceMethod ({ cls := "WasteHouse$RoundColumns", name := "isBin", desc := "(I)Z" } : Jvm.MethodName)) ∈ lw_all := lw_g (lw_at lw_m24 152 rfl) rfl
theorem q6065 : (Jvm.Cond.code ({ cls := "WasteHouse$RoundColumns", name := "isBin", desc := "(I)Z" } : Jvm.MethodName) prog_36_method_3_code (2 : Nat) (Option.some Jvm.ClassFile.FieldType.boolean)) ∈ lw_all := lw_g (lw_at lw_m24 153 rfl) rfl
theorem q6066 : (Jvm.Cond.methodLink "WasteHouse$RoundColumns" (106 : Nat) ({ cls := "java/lang/Math", name := "min", desc := "(II)I" } : Jvm.MethodName)) ∈ lw_all := lw_g (lw_at lw_m24 154 rfl) rfl
theorem q6067 : (Jvm.Cond.methodLink "WasteHouse$RoundColumns" (112 : Nat) ({ cls := "java/lang/Math", name := "max", desc := "(II)I" } : Jvm.MethodName)) ∈ lw_all := lw_g (lw_at lw_m24 155 rfl) rfl
theorem q6069 : (Jvm.Cond.instanceMethod ({ cls := "WasteHouse$RoundColumns", name := "clear", desc := "()V" } : Jvm.MethodName)) ∈ lw_all := lw_g (lw_at lw_m24 157 rfl) rfl
theorem q6070 : (Jvm.Cond.selects "WasteHouse$RoundColumns" ({ cls := "WasteHouse$RoundColumns", name := "clear", desc := "()V" } : Jvm.MethodName) ({ cls := "WasteHouse$RoundColumns", name := "clear", desc := "()V" } : Jvm.MethodName)) ∈ lw_all := lw_g (lw_at lw_m24 158 rfl) rfl
theorem q6071 : (Jvm.Cond.code ({ cls := "WasteHouse$RoundColumns", name := "clear", desc := "()V" } : Jvm.MethodName) prog_36_method_8_code (2 : Nat) (Option.none : Option Jvm.ClassFile.FieldType)) ∈ lw_all := lw_g (lw_at lw_m24 159 rfl) rfl
theorem q6073 : (Jvm.Cond.instanceMethod ({ cls := "WasteHouse$RoundColumns", name := "run", desc := "(I)I" } : Jvm.MethodName)) ∈ lw_all := lw_g (lw_at lw_m24 161 rfl) rfl
theorem q6074 : (Jvm.Cond.selects "WasteHouse$RoundColumns" ({ cls := "WasteHouse$RoundColumns", name := "run", desc := "(I)I" } : Jvm.MethodName) ({ cls := "WasteHouse$RoundColumns", name := "run", desc := "(I)I" } : Jvm.MethodName)) ∈ lw_all := lw_g (lw_at lw_m24 162 rfl) rfl
theorem q6075 : (Jvm.Cond.code ({ cls := "WasteHouse$RoundColumns", name := "run", desc := "(I)I" } : Jvm.MethodName) prog_36_method_13_code (4 : Nat) (Option.some Jvm.ClassFile.FieldType.int)) ∈ lw_all := lw_g (lw_at lw_m24 163 rfl) rfl
theorem q6076 : (Jvm.Cond.methodLink "WasteHouse$RoundColumns" (145 : Nat) ({ cls := "WasteHouse$RoundColumns", name := "spread", desc := "()I" } : Jvm.MethodName)) ∈ lw_all := lw_g (lw_at lw_m24 164 rfl) rfl
theorem q6077 : (Jvm.Cond.privateMethod ({ cls := "WasteHouse$RoundColumns", name := "spread", desc := "()I" } : Jvm.MethodName)) ∈ lw_tbl := lw_at lw_m24 165 rfl
theorem q6078 : (Jvm.Cond.instanceMethod ({ cls := "WasteHouse$RoundColumns", name := "spread", desc := "()I" } : Jvm.MethodName)) ∈ lw_all := lw_g (lw_at lw_m24 166 rfl) rfl
theorem q6079 : (Jvm.Cond.code ({ cls := "WasteHouse$RoundColumns", name := "spread", desc := "()I" } : Jvm.MethodName) prog_36_method_12_code (5 : Nat) (Option.some Jvm.ClassFile.FieldType.int)) ∈ lw_all := lw_g (lw_at lw_m24 167 rfl) rfl
theorem q6080 : (Jvm.Cond.methodLink "WasteHouse$RoundColumns" (132 : Nat) ({ cls := "WasteHouse$RoundColumns$Rows", name := "clear", desc := "()V" } : Jvm.MethodName)) ∈ lw_all := lw_g (lw_at lw_m24 168 rfl) rfl
theorem q6084 : (Jvm.Cond.methodLink "WasteHouse$RoundColumns" (135 : Nat) ({ cls := "WasteHouse$RoundColumns", name := "grow", desc := "(III)V" } : Jvm.MethodName)) ∈ lw_all := lw_g (lw_at lw_m24 172 rfl) rfl
theorem q6085 : (Jvm.Cond.privateMethod ({ cls := "WasteHouse$RoundColumns", name := "grow", desc := "(III)V" } : Jvm.MethodName)) ∈ lw_tbl := lw_at lw_m24 173 rfl
theorem q6086 : (Jvm.Cond.instanceMethod ({ cls := "WasteHouse$RoundColumns", name := "grow", desc := "(III)V" } : Jvm.MethodName)) ∈ lw_all := lw_g (lw_at lw_m24 174 rfl) rfl
theorem q6087 : (Jvm.Cond.code ({ cls := "WasteHouse$RoundColumns", name := "grow", desc := "(III)V" } : Jvm.MethodName) prog_36_method_11_code (9 : Nat) (Option.none : Option Jvm.ClassFile.FieldType)) ∈ lw_all := lw_g (lw_at lw_m24 175 rfl) rfl
theorem q6088 : (Jvm.Cond.methodLink "WasteHouse$RoundColumns" (115 : Nat) ({ cls := "WasteHouse$RoundColumns", name := "isTold", desc := "(II)Z" } : Jvm.MethodName)) ∈ lw_all := lw_g (lw_at lw_m24 176 rfl) rfl
theorem q6089 : (Jvm.Cond.privateMethod ({ cls := "WasteHouse$RoundColumns", name := "isTold", desc := "(II)Z" } : Jvm.MethodName)) ∈ lw_tbl := lw_at lw_m24 177 rfl
theorem q6090 : (Jvm.Cond.instanceMethod ({ cls := "WasteHouse$RoundColumns", name := "isTold", desc := "(II)Z" } : Jvm.MethodName)) ∈ lw_all := lw_g (lw_at lw_m24 178 rfl) rfl
theorem q6091 : (Jvm.Cond.code ({ cls := "WasteHouse$RoundColumns", name := "isTold", desc := "(II)Z" } : Jvm.MethodName) prog_36_method_9_code (3 : Nat) (Option.some Jvm.ClassFile.FieldType.boolean)) ∈ lw_all := lw_g (lw_at lw_m24 179 rfl) rfl
theorem q6092 : (Jvm.Cond.methodLink "WasteHouse$RoundColumns" (119 : Nat) ({ cls := "WasteHouse$RoundColumns", name := "weightOf", desc := "(I)I" } : Jvm.MethodName)) ∈ lw_all := lw_g (lw_at lw_m24 180 rfl) rfl
theorem q6093 : (Jvm.Cond.privateMethod ({ cls := "WasteHouse$RoundColumns", name := "weightOf", desc := "(I)I" } : Jvm.MethodName)) ∈ lw_tbl := lw_at lw_m24 181 rfl
theorem q6094 : (Jvm.Cond.instanceMethod ({ cls := "WasteHouse$RoundColumns", name := "weightOf", desc := "(I)I" } : Jvm.MethodName)) ∈ lw_all := lw_g (lw_at lw_m24 182 rfl) rfl
theorem q6095 : (Jvm.Cond.code ({ cls := "WasteHouse$RoundColumns", name := "weightOf", desc := "(I)I" } : Jvm.MethodName) prog_36_method_10_code (4 : Nat) (Option.some Jvm.ClassFile.FieldType.int)) ∈ lw_all := lw_g (lw_at lw_m24 183 rfl) rfl
theorem q6096 : (Jvm.Cond.methodLink "WasteHouse$RoundColumns" (128 : Nat) ({ cls := "WasteHouse$RoundColumns$Rows", name := "offer", desc := "(IIIII)V" } : Jvm.MethodName)) ∈ lw_all := lw_g (lw_at lw_m24 184 rfl) rfl
theorem q6104 : (Jvm.Cond.methodLink "WasteHouse$RoundColumns" (139 : Nat) ({ cls := "WasteHouse$RoundColumns$Rows", name := "first", desc := "(II)I" } : Jvm.MethodName)) ∈ lw_all := lw_g (lw_at lw_m24 192 rfl) rfl
theorem q6108 : (Jvm.Cond.classLink "WasteHouse$RoundColumns" (149 : Nat) "java/lang/IllegalStateException") ∈ lw_all := lw_g (lw_at lw_m24 196 rfl) rfl
theorem q6109 : (Jvm.Cond.stringRef "WasteHouse$RoundColumns" (151 : Nat) "spent") ∈ lw_tbl := lw_at lw_m24 197 rfl
theorem q6110 : (Jvm.Cond.methodLink "WasteHouse$RoundColumns" (153 : Nat) ({ cls := "java/lang/IllegalStateException", name := "<init>", desc := "(Ljava/lang/String;)V" } : Jvm.MethodName)) ∈ lw_all := lw_g (lw_at lw_m24 198 rfl) rfl
theorem q6111 : (Jvm.Cond.methodLink "WasteHouse$RoundColumns" (175 : Nat) ({ cls := "WasteHouse$RoundColumns", name := "close", desc := "(I)V" } : Jvm.MethodName)) ∈ lw_all := lw_g (lw_at lw_m24 199 rfl) rfl
theorem q6112 : (Jvm.Cond.privateMethod ({ cls := "WasteHouse$RoundColumns", name := "close", desc := "(I)V" } : Jvm.MethodName)) ∈ lw_tbl := lw_at lw_m24 200 rfl
theorem q6113 : (Jvm.Cond.instanceMethod ({ cls := "WasteHouse$RoundColumns", name := "close", desc := "(I)V" } : Jvm.MethodName)) ∈ lw_all := lw_g (lw_at lw_m24 201 rfl) rfl
theorem q6114 : (Jvm.Cond.code ({ cls := "WasteHouse$RoundColumns", name := "close", desc := "(I)V" } : Jvm.MethodName) prog_36_method_14_code (9 : Nat) (Option.none : Option Jvm.ClassFile.FieldType)) ∈ lw_all := lw_g (lw_at lw_m24 202 rfl) rfl
theorem q6115 : (Jvm.Cond.methodLink "WasteHouse$RoundColumns" (190 : Nat) ({ cls := "WasteHouse$RoundColumns", name := "isBarred", desc := "(I)Z" } : Jvm.MethodName)) ∈ lw_all := lw_g (lw_at lw_m24 203 rfl) rfl
theorem q6116 : (Jvm.Cond.privateMethod ({ cls := "WasteHouse$RoundColumns", name := "isBarred", desc := "(I)Z" } : Jvm.MethodName)) ∈ lw_tbl := lw_at lw_m24 204 rfl
theorem q6117 : (Jvm.Cond.instanceMethod ({ cls := "WasteHouse$RoundColumns", name := "isBarred", desc := "(I)Z" } : Jvm.MethodName)) ∈ lw_all := lw_g (lw_at lw_m24 205 rfl) rfl
theorem q6118 : (Jvm.Cond.code ({ cls := "WasteHouse$RoundColumns", name := "isBarred", desc := "(I)Z" } : Jvm.MethodName) prog_36_method_15_code (7 : Nat) (Option.some Jvm.ClassFile.FieldType.boolean)) ∈ lw_all := lw_g (lw_at lw_m24 206 rfl) rfl
theorem q6119 : (Jvm.Cond.methodLink "WasteHouse$RoundColumns" (179 : Nat) ({ cls := "WasteHouse$RoundColumns", name := "findCuts", desc := "()V" } : Jvm.MethodName)) ∈ lw_all := lw_g (lw_at lw_m24 207 rfl) rfl
theorem q6120 : (Jvm.Cond.privateMethod ({ cls := "WasteHouse$RoundColumns", name := "findCuts", desc := "()V" } : Jvm.MethodName)) ∈ lw_tbl := lw_at lw_m24 208 rfl
theorem q6121 : (Jvm.Cond.instanceMethod ({ cls := "WasteHouse$RoundColumns", name := "findCuts", desc := "()V" } : Jvm.MethodName)) ∈ lw_all := lw_g (lw_at lw_m24 209 rfl) rfl
theorem q6122 : (Jvm.Cond.code ({ cls := "WasteHouse$RoundColumns", name := "findCuts", desc := "()V" } : Jvm.MethodName) prog_36_method_16_code (2 : Nat) (Option.none : Option Jvm.ClassFile.FieldType)) ∈ lw_all := lw_g (lw_at lw_m24 210 rfl) rfl
theorem q6123 : (Jvm.Cond.methodLink "WasteHouse$RoundColumns" (182 : Nat) ({ cls := "WasteHouse$RoundColumns", name := "solve", desc := "(ILWasteHouse$RoundColumns$Ratio;)V" } : Jvm.MethodName)) ∈ lw_all := lw_g (lw_at lw_m24 211 rfl) rfl
theorem q6124 : (Jvm.Cond.privateMethod ({ cls := "WasteHouse$RoundColumns", name := "solve", desc := "(ILWasteHouse$RoundColumns$Ratio;)V" } : Jvm.MethodName)) ∈ lw_tbl := lw_at lw_m24 212 rfl
theorem q6125 : (Jvm.Cond.instanceMethod ({ cls := "WasteHouse$RoundColumns", name := "solve", desc := "(ILWasteHouse$RoundColumns$Ratio;)V" } : Jvm.MethodName)) ∈ lw_all := lw_g (lw_at lw_m24 213 rfl) rfl
theorem q6126 : (Jvm.Cond.code ({ cls := "WasteHouse$RoundColumns", name := "solve", desc := "(ILWasteHouse$RoundColumns$Ratio;)V" } : Jvm.MethodName) prog_36_method_19_code (5 : Nat) (Option.none : Option Jvm.ClassFile.FieldType)) ∈ lw_all := lw_g (lw_at lw_m24 214 rfl) rfl
theorem q6127 : (Jvm.Cond.methodLink "WasteHouse$RoundColumns" (212 : Nat) ({ cls := "WasteHouse$RoundColumns", name := "layOut", desc := "(I)V" } : Jvm.MethodName)) ∈ lw_all := lw_g (lw_at lw_m24 215 rfl) rfl
theorem q6128 : (Jvm.Cond.privateMethod ({ cls := "WasteHouse$RoundColumns", name := "layOut", desc := "(I)V" } : Jvm.MethodName)) ∈ lw_tbl := lw_at lw_m24 216 rfl
theorem q6129 : (Jvm.Cond.instanceMethod ({ cls := "WasteHouse$RoundColumns", name := "layOut", desc := "(I)V" } : Jvm.MethodName)) ∈ lw_all := lw_g (lw_at lw_m24 217 rfl) rfl
theorem q6130 : (Jvm.Cond.code ({ cls := "WasteHouse$RoundColumns", name := "layOut", desc := "(I)V" } : Jvm.MethodName) prog_36_method_17_code (7 : Nat) (Option.none : Option Jvm.ClassFile.FieldType)) ∈ lw_all := lw_g (lw_at lw_m24 218 rfl) rfl
theorem q6131 : (Jvm.Cond.methodLink "WasteHouse$RoundColumns" (196 : Nat) ({ cls := "WasteHouse$RoundColumns$Corner", name := "begin", desc := "(I)V" } : Jvm.MethodName)) ∈ lw_all := lw_g (lw_at lw_m24 219 rfl) rfl
theorem q6135 : (Jvm.Cond.methodLink "WasteHouse$RoundColumns" (199 : Nat) ({ cls := "WasteHouse$RoundColumns$Corner", name := "row", desc := "(J)I" } : Jvm.MethodName)) ∈ lw_all := lw_g (lw_at lw_m24 223 rfl) rfl
theorem q6139 : (Jvm.Cond.constantLong "WasteHouse$RoundColumns" (203 : Nat) (-1 : Int64)) ∈ lw_all := lw_g (lw_at lw_m24 227 rfl) rfl
theorem q6140 : (Jvm.Cond.methodLink "WasteHouse$RoundColumns" (205 : Nat) ({ cls := "WasteHouse$RoundColumns", name := "isFree", desc := "(II)Z" } : Jvm.MethodName)) ∈ lw_all := lw_g (lw_at lw_m24 228 rfl) rfl
theorem q6141 : (Jvm.Cond.privateMethod ({ cls := "WasteHouse$RoundColumns", name := "isFree", desc := "(II)Z" } : Jvm.MethodName)) ∈ lw_tbl := lw_at lw_m24 229 rfl
theorem q6142 : (Jvm.Cond.instanceMethod ({ cls := "WasteHouse$RoundColumns", name := "isFree", desc := "(II)Z" } : Jvm.MethodName)) ∈ lw_all := lw_g (lw_at lw_m24 230 rfl) rfl
theorem q6143 : (Jvm.Cond.code ({ cls := "WasteHouse$RoundColumns", name := "isFree", desc := "(II)Z" } : Jvm.MethodName) prog_36_method_18_code (3 : Nat) (Option.some Jvm.ClassFile.FieldType.boolean)) ∈ lw_all := lw_g (lw_at lw_m24 231 rfl) rfl
theorem q6144 : (Jvm.Cond.methodLink "WasteHouse$RoundColumns" (208 : Nat) ({ cls := "WasteHouse$RoundColumns$Corner", name := "set", desc := "(IIJ)V" } : Jvm.MethodName)) ∈ lw_all := lw_g (lw_at lw_m24 232 rfl) rfl
theorem q6148 : (Jvm.Cond.methodLink "WasteHouse$RoundColumns" (215 : Nat) ({ cls := "WasteHouse$RoundColumns$Corner", name := "solve", desc := "(LWasteHouse$RoundColumns$Ratio;)V" } : Jvm.MethodName)) ∈ lw_all := lw_g (lw_at lw_m24 236 rfl) rfl
theorem q6194 : (Jvm.Cond.methodLink "WasteHouse$RoundColumns" (186 : Nat) ({ cls := "WasteHouse$RoundColumns$Ratio", name := "is", desc := "()Z" } : Jvm.MethodName)) ∈ lw_all := lw_g (lw_at lw_m25 42 rfl) rfl
theorem q6199 : (Jvm.Cond.instanceMethod ({ cls := "WasteHouse$RoundColumns", name := "steps", desc := "()I" } : Jvm.MethodName)) ∈ lw_all := lw_g (lw_at lw_m25 47 rfl) rfl
theorem q6200 : (Jvm.Cond.selects "WasteHouse$RoundColumns" ({ cls := "WasteHouse$RoundColumns", name := "steps", desc := "()I" } : Jvm.MethodName) ({ cls := "WasteHouse$RoundColumns", name := "steps", desc := "()I" } : Jvm.MethodName)) ∈ lw_all := lw_g (lw_at lw_m25 48 rfl) rfl
theorem q6201 : (Jvm.Cond.code ({ cls := "WasteHouse$RoundColumns", name := "steps", desc := "()I" } : Jvm.MethodName) prog_36_method_24_code (1 : Nat) (Option.some Jvm.ClassFile.FieldType.int)) ∈ lw_all := lw_g (lw_at lw_m25 49 rfl) rfl
theorem q6203 : (Jvm.Cond.instanceMethod ({ cls := "WasteHouse$RoundColumns", name := "columns", desc := "()I" } : Jvm.MethodName)) ∈ lw_all := lw_g (lw_at lw_m25 51 rfl) rfl
theorem q6204 : (Jvm.Cond.selects "WasteHouse$RoundColumns" ({ cls := "WasteHouse$RoundColumns", name := "columns", desc := "()I" } : Jvm.MethodName) ({ cls := "WasteHouse$RoundColumns", name := "columns", desc := "()I" } : Jvm.MethodName)) ∈ lw_all := lw_g (lw_at lw_m25 52 rfl) rfl
theorem q6205 : (Jvm.Cond.code ({ cls := "WasteHouse$RoundColumns", name := "columns", desc := "()I" } : Jvm.MethodName) prog_36_method_25_code (1 : Nat) (Option.some Jvm.ClassFile.FieldType.int)) ∈ lw_all := lw_g (lw_at lw_m25 53 rfl) rfl
theorem q6207 : (Jvm.Cond.instanceMethod ({ cls := "WasteHouse$RoundColumns", name := "column", desc := "(II)I" } : Jvm.MethodName)) ∈ lw_all := lw_g (lw_at lw_m25 55 rfl) rfl
theorem q6208 : (Jvm.Cond.selects "WasteHouse$RoundColumns" ({ cls := "WasteHouse$RoundColumns", name := "column", desc := "(II)I" } : Jvm.MethodName) ({ cls := "WasteHouse$RoundColumns", name := "column", desc := "(II)I" } : Jvm.MethodName)) ∈ lw_all := lw_g (lw_at lw_m25 56 rfl) rfl
theorem q6209 : (Jvm.Cond.code ({ cls := "WasteHouse$RoundColumns", name := "column", desc := "(II)I" } : Jvm.MethodName) prog_36_method_26_code (3 : Nat) (Option.some Jvm.ClassFile.FieldType.int)) ∈ lw_all := lw_g (lw_at lw_m25 57 rfl) rfl
theorem q6210 : (Jvm.Cond.methodLink "WasteHouse$RoundColumns" (233 : Nat) ({ cls := "WasteHouse$RoundColumns", name := "isColumn", desc := "(I)Z" } : Jvm.MethodName)) ∈ lw_all := lw_g (lw_at lw_m25 58 rfl) rfl
theorem q6211 : (Jvm.Cond.methodLink "WasteHouse$RoundColumns" (236 : Nat) ({ cls := "java/lang/Integer", name := "bitCount", desc := "(I)I" } : Jvm.MethodName)) ∈ lw_all := lw_g (lw_at lw_m25 59 rfl) rfl
theorem q6213 : (Jvm.Cond.instanceMethod ({ cls := "WasteHouse$RoundColumns", name := "bound", desc := "(I)J" } : Jvm.MethodName)) ∈ lw_all := lw_g (lw_at lw_m25 61 rfl) rfl
theorem q6214 : (Jvm.Cond.selects "WasteHouse$RoundColumns" ({ cls := "WasteHouse$RoundColumns", name := "bound", desc := "(I)J" } : Jvm.MethodName) ({ cls := "WasteHouse$RoundColumns", name := "bound", desc := "(I)J" } : Jvm.MethodName)) ∈ lw_all := lw_g (lw_at lw_m25 62 rfl) rfl
theorem q6215 : (Jvm.Cond.code ({ cls := "WasteHouse$RoundColumns", name := "bound", desc := "(I)J" } : Jvm.MethodName) prog_36_method_20_code (2 : Nat) (Option.some Jvm.ClassFile.FieldType.long)) ∈ lw_all := lw_g (lw_at lw_m25 63 rfl) rfl
theorem q6216 : (Jvm.Cond.methodLink "WasteHouse$RoundColumns" (222 : Nat) ({ cls := "WasteHouse$RoundColumns$Ratio", name := "part", desc := "(I)J" } : Jvm.MethodName)) ∈ lw_all := lw_g (lw_at lw_m25 64 rfl) rfl
theorem q6221 : (Jvm.Cond.instanceMethod ({ cls := "WasteHouse$RoundColumns", name := "dual", desc := "(II)J" } : Jvm.MethodName)) ∈ lw_all := lw_g (lw_at lw_m25 69 rfl) rfl
theorem q6222 : (Jvm.Cond.selects "WasteHouse$RoundColumns" ({ cls := "WasteHouse$RoundColumns", name := "dual", desc := "(II)J" } : Jvm.MethodName) ({ cls := "WasteHouse$RoundColumns", name := "dual", desc := "(II)J" } : Jvm.MethodName)) ∈ lw_all := lw_g (lw_at lw_m25 70 rfl) rfl
theorem q6223 : (Jvm.Cond.code ({ cls := "WasteHouse$RoundColumns", name := "dual", desc := "(II)J" } : Jvm.MethodName) prog_36_method_21_code (3 : Nat) (Option.some Jvm.ClassFile.FieldType.long)) ∈ lw_all := lw_g (lw_at lw_m25 71 rfl) rfl
theorem q6224 : (Jvm.Cond.methodLink "WasteHouse$RoundColumns" (226 : Nat) ({ cls := "WasteHouse$RoundColumns$Ratio", name := "clear", desc := "()V" } : Jvm.MethodName)) ∈ lw_all := lw_g (lw_at lw_m25 72 rfl) rfl
theorem q6225 : (Jvm.Cond.methodLink "WasteHouse$RoundColumns" (230 : Nat) ({ cls := "WasteHouse$RoundColumns$Ratio", name := "set", desc := "(JJ)V" } : Jvm.MethodName)) ∈ lw_all := lw_g (lw_at lw_m25 73 rfl) rfl
theorem q6227 : (Jvm.Cond.instanceMethod ({ cls := "WasteHouse$RoundColumns", name := "used", desc := "(II)J" } : Jvm.MethodName)) ∈ lw_all := lw_g (lw_at lw_m25 75 rfl) rfl
theorem q6228 : (Jvm.Cond.selects "WasteHouse$RoundColumns" ({ cls := "WasteHouse$RoundColumns", name := "used", desc := "(II)J" } : Jvm.MethodName) ({ cls := "WasteHouse$RoundColumns", name := "used", desc := "(II)J" } : Jvm.MethodName)) ∈ lw_all := lw_g (lw_at lw_m25 76 rfl) rfl
theorem q6229 : (Jvm.Cond.code ({ cls := "WasteHouse$RoundColumns", name := "used", desc := "(II)J" } : Jvm.MethodName) prog_36_method_23_code (5 : Nat) (Option.some Jvm.ClassFile.FieldType.long)) ∈ lw_all := lw_g (lw_at lw_m25 77 rfl) rfl
theorem q6231 : (Jvm.Cond.instanceMethod ({ cls := "WasteHouse$RoundColumns", name := "share", desc := "(II)J" } : Jvm.MethodName)) ∈ lw_all := lw_g (lw_at lw_m25 79 rfl) rfl
theorem q6232 : (Jvm.Cond.selects "WasteHouse$RoundColumns" ({ cls := "WasteHouse$RoundColumns", name := "share", desc := "(II)J" } : Jvm.MethodName) ({ cls := "WasteHouse$RoundColumns", name := "share", desc := "(II)J" } : Jvm.MethodName)) ∈ lw_all := lw_g (lw_at lw_m25 80 rfl) rfl
theorem q6233 : (Jvm.Cond.code ({ cls := "WasteHouse$RoundColumns", name := "share", desc := "(II)J" } : Jvm.MethodName) prog_36_method_27_code (3 : Nat) (Option.some Jvm.ClassFile.FieldType.long)) ∈ lw_all := lw_g (lw_at lw_m25 81 rfl) rfl
theorem q6235 : (Jvm.Cond.instanceMethod ({ cls := "WasteHouse$RoundColumns", name := "dropped", desc := "(I)Z" } : Jvm.MethodName)) ∈ lw_all := lw_g (lw_at lw_m25 83 rfl) rfl
theorem q6236 : (Jvm.Cond.selects "WasteHouse$RoundColumns" ({ cls := "WasteHouse$RoundColumns", name := "dropped", desc := "(I)Z" } : Jvm.MethodName) ({ cls := "WasteHouse$RoundColumns", name := "dropped", desc := "(I)Z" } : Jvm.MethodName)) ∈ lw_all := lw_g (lw_at lw_m25 84 rfl) rfl
theorem q6237 : (Jvm.Cond.code ({ cls := "WasteHouse$RoundColumns", name := "dropped", desc := "(I)Z" } : Jvm.MethodName) prog_36_method_28_code (2 : Nat) (Option.some Jvm.ClassFile.FieldType.boolean)) ∈ lw_all := lw_g (lw_at lw_m25 85 rfl) rfl
theorem q6239 : (Jvm.Cond.instanceMethod ({ cls := "WasteHouse$RoundColumns", name := "cuts", desc := "()I" } : Jvm.MethodName)) ∈ lw_all := lw_g (lw_at lw_m25 87 rfl) rfl
theorem q6240 : (Jvm.Cond.selects "WasteHouse$RoundColumns" ({ cls := "WasteHouse$RoundColumns", name := "cuts", desc := "()I" } : Jvm.MethodName) ({ cls := "WasteHouse$RoundColumns", name := "cuts", desc := "()I" } : Jvm.MethodName)) ∈ lw_all := lw_g (lw_at lw_m25 88 rfl) rfl
theorem q6241 : (Jvm.Cond.code ({ cls := "WasteHouse$RoundColumns", name := "cuts", desc := "()I" } : Jvm.MethodName) prog_36_method_29_code (1 : Nat) (Option.some Jvm.ClassFile.FieldType.int)) ∈ lw_all := lw_g (lw_at lw_m25 89 rfl) rfl
theorem q6243 : (Jvm.Cond.instanceMethod ({ cls := "WasteHouse$RoundColumns", name := "cut", desc := "(II)I" } : Jvm.MethodName)) ∈ lw_all := lw_g (lw_at lw_m25 91 rfl) rfl
theorem q6244 : (Jvm.Cond.selects "WasteHouse$RoundColumns" ({ cls := "WasteHouse$RoundColumns", name := "cut", desc := "(II)I" } : Jvm.MethodName) ({ cls := "WasteHouse$RoundColumns", name := "cut", desc := "(II)I" } : Jvm.MethodName)) ∈ lw_all := lw_g (lw_at lw_m25 92 rfl) rfl
theorem q6245 : (Jvm.Cond.code ({ cls := "WasteHouse$RoundColumns", name := "cut", desc := "(II)I" } : Jvm.MethodName) prog_36_method_30_code (5 : Nat) (Option.some Jvm.ClassFile.FieldType.int)) ∈ lw_all := lw_g (lw_at lw_m25 93 rfl) rfl
theorem q6246 : (Jvm.Cond.methodLink "WasteHouse$RoundColumns" (241 : Nat) ({ cls := "java/lang/Integer", name := "numberOfTrailingZeros", desc := "(I)I" } : Jvm.MethodName)) ∈ lw_all := lw_g (lw_at lw_m25 94 rfl) rfl
theorem q6248 : (Jvm.Cond.instanceMethod ({ cls := "WasteHouse$RoundColumns", name := "check", desc := "()I" } : Jvm.MethodName)) ∈ lw_all := lw_g (lw_at lw_m25 96 rfl) rfl
theorem q6249 : (Jvm.Cond.selects "WasteHouse$RoundColumns" ({ cls := "WasteHouse$RoundColumns", name := "check", desc := "()I" } : Jvm.MethodName) ({ cls := "WasteHouse$RoundColumns", name := "check", desc := "()I" } : Jvm.MethodName)) ∈ lw_all := lw_g (lw_at lw_m25 97 rfl) rfl
theorem q6250 : (Jvm.Cond.code ({ cls := "WasteHouse$RoundColumns", name := "check", desc := "()I" } : Jvm.MethodName) prog_36_method_32_code (2 : Nat) (Option.some Jvm.ClassFile.FieldType.int)) ∈ lw_all := lw_g (lw_at lw_m25 98 rfl) rfl
theorem q6251 : (Jvm.Cond.methodLink "WasteHouse$RoundColumns" (247 : Nat) ({ cls := "WasteHouse$RoundColumns", name := "stands", desc := "(I)Z" } : Jvm.MethodName)) ∈ lw_all := lw_g (lw_at lw_m25 99 rfl) rfl
theorem q6252 : (Jvm.Cond.privateMethod ({ cls := "WasteHouse$RoundColumns", name := "stands", desc := "(I)Z" } : Jvm.MethodName)) ∈ lw_tbl := lw_at lw_m25 100 rfl
theorem q6253 : (Jvm.Cond.instanceMethod ({ cls := "WasteHouse$RoundColumns", name := "stands", desc := "(I)Z" } : Jvm.MethodName)) ∈ lw_all := lw_g (lw_at lw_m25 101 rfl) rfl
theorem q6254 : (Jvm.Cond.code ({ cls := "WasteHouse$RoundColumns", name := "stands", desc := "(I)Z" } : Jvm.MethodName) prog_36_method_31_code (9 : Nat) (Option.some Jvm.ClassFile.FieldType.boolean)) ∈ lw_all := lw_g (lw_at lw_m25 102 rfl) rfl
theorem q6255 : (Jvm.Cond.methodLink "WasteHouse$RoundColumns" (244 : Nat) ({ cls := "WasteHouse$RoundColumns", name := "column", desc := "(II)I" } : Jvm.MethodName)) ∈ lw_all := lw_g (lw_at lw_m25 103 rfl) rfl
theorem q6257 : (Jvm.Cond.instanceMethod ({ cls := "WasteHouse$RoundColumns", name := "labelsClosed", desc := "()Z" } : Jvm.MethodName)) ∈ lw_all := lw_g (lw_at lw_m25 105 rfl) rfl
theorem q6258 : (Jvm.Cond.selects "WasteHouse$RoundColumns" ({ cls := "WasteHouse$RoundColumns", name := "labelsClosed", desc := "()Z" } : Jvm.MethodName) ({ cls := "WasteHouse$RoundColumns", name := "labelsClosed", desc := "()Z" } : Jvm.MethodName)) ∈ lw_all := lw_g (lw_at lw_m25 106 rfl) rfl
theorem q6259 : (Jvm.Cond.code ({ cls := "WasteHouse$RoundColumns", name := "labelsClosed", desc := "()Z" } : Jvm.MethodName) prog_36_method_33_code (4 : Nat) (Option.some Jvm.ClassFile.FieldType.boolean)) ∈ lw_all := lw_g (lw_at lw_m25 107 rfl) rfl
theorem q6260 : (Jvm.Cond.methodLink "WasteHouse$RoundColumns" (250 : Nat) ({ cls := "WasteHouse$RoundColumns", name := "isSet", desc := "(I)Z" } : Jvm.MethodName)) ∈ lw_all := lw_g (lw_at lw_m25 108 rfl) rfl
theorem q6261 : (Jvm.Cond.privateMethod ({ cls := "WasteHouse$RoundColumns", name := "isSet", desc := "(I)Z" } : Jvm.MethodName)) ∈ lw_tbl := lw_at lw_m25 109 rfl
theorem q6262 : (Jvm.Cond.instanceMethod ({ cls := "WasteHouse$RoundColumns", name := "isSet", desc := "(I)Z" } : Jvm.MethodName)) ∈ lw_all := lw_g (lw_at lw_m25 110 rfl) rfl
theorem q6263 : (Jvm.Cond.code ({ cls := "WasteHouse$RoundColumns", name := "isSet", desc := "(I)Z" } : Jvm.MethodName) prog_36_method_34_code (3 : Nat) (Option.some Jvm.ClassFile.FieldType.boolean)) ∈ lw_all := lw_g (lw_at lw_m25 111 rfl) rfl
theorem q9645 : (Jvm.Cond.castable "WasteHouse$RoundColumns" "java/lang/Object") ∈ lw_tbl := lw_at lw_m39 133 rfl
theorem in_X17 : ∀ w ∈ wsX170, w ∈ lw_all := lw_in wsX170 [1242, 1244, 1246, 1248, 1250, 1252, 1254, 1256, 1258, 1260, 1262, 1264, 1266, 1268, 1270, 1272, 1274, 1276, 1278, 1280, 1282, 1284, 1286, 1288, 1290, 1292, 1294, 1296] (by decide +kernel) (by decide +kernel)
