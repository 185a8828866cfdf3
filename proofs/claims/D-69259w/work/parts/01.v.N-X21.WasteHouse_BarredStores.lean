/-! WasteHouse$BarredStores -/
set_option maxRecDepth 100000
def RX21 : String := "WasteHouse$BarredStores"
def TX21 : u_T := fun k => match k with
  | 0 => ("WasteHouse$BarredStores", "places", "[LWasteHouse$BarredStores$Place;", true)
  | 1 => ("WasteHouse$BarredStores", "placeCount", "I", false)
  | 2 => ("WasteHouse$BarredStores", "loads", "[LWasteHouse$BarredStores$Load;", true)
  | 3 => ("WasteHouse$BarredStores", "loadCount", "I", false)
  | 4 => ("WasteHouse$BarredStores", "metres", "[S", true)
  | 5 => ("WasteHouse$BarredStores", "mosts", "[I", true)
  | 6 => ("WasteHouse$BarredStores", "trials", "[B", true)
  | 7 => ("WasteHouse$BarredStores", "arrivals", "I", false)
  | 8 => ("WasteHouse$BarredStores", "at", "[I", true)
  | 9 => ("WasteHouse$BarredStores", "far", "[B", true)
  | 10 => ("WasteHouse$BarredStores", "queue", "[S", true)
  | 11 => ("WasteHouse$BarredStores", "stepLoads", "[B", true)
  | 12 => ("WasteHouse$BarredStores", "stepPlaces", "[B", true)
  | 13 => ("WasteHouse$BarredStores", "steps", "I", false)
  | _ => ("WasteHouse$BarredStores", "met", "I", false)
def tyX21 : Nat → FieldType := fun k => match k with
  | 0 => .array (.object "WasteHouse$BarredStores$Place")
  | 1 => .int
  | 2 => .array (.object "WasteHouse$BarredStores$Load")
  | 3 => .int
  | 4 => .array .short
  | 5 => .array .int
  | 6 => .array .byte
  | 7 => .int
  | 8 => .array .int
  | 9 => .array .byte
  | 10 => .array .short
  | 11 => .array .byte
  | 12 => .array .byte
  | 13 => .int
  | _ => .int
abbrev wsX210 : List Cond := u_ws RX21 TX21 15
set_option maxRecDepth 100000 in
theorem nmX21 : ∀ a, a < 15 → ∀ b, b < 15 → a ≠ b → (TX21 a).2.1 ≠ (TX21 b).2.1 := by decide +kernel
set_option maxRecDepth 100000 in
theorem tyX21_ok : ∀ k, k < 15 → parseFieldDescriptor (TX21 k).2.2.1 = some (tyX21 k) := by decide +kernel
abbrev cX21_init : ByteArray := prog_6_method_1_code
def yX21_init : MethodName := ⟨RX21, "<init>", "()V"⟩
def dkwX21_init_6 : List UInt8 := [18, 54, 79, 132, 1, 1, 167, 255, 226, 177]
abbrev dktX21_init_6 : List UInt8 := dkwX21_init_6 ++ []
def dkwX21_init_5 : List UInt8 := [27, 16, 6, 162, 0, 30, 42, 180, 0, 17, 27, 187, 0, 15, 89, 183, 0, 53, 83, 42, 180, 0, 25, 27]
abbrev dktX21_init_5 : List UInt8 := dkwX21_init_5 ++ dktX21_init_6
def dkwX21_init_4 : List UInt8 := [162, 0, 22, 42, 180, 0, 9, 27, 187, 0, 7, 89, 183, 0, 52, 83, 132, 1, 1, 167, 255, 235, 3, 60]
abbrev dktX21_init_4 : List UInt8 := dkwX21_init_4 ++ dktX21_init_5
def dkwX21_init_3 : List UInt8 := [16, 64, 188, 8, 181, 0, 42, 42, 16, 64, 188, 8, 181, 0, 45, 42, 2, 181, 0, 48, 3, 60, 27, 7]
abbrev dktX21_init_3 : List UInt8 := dkwX21_init_3 ++ dktX21_init_4
def dkwX21_init_2 : List UInt8 := [188, 10, 181, 0, 33, 42, 17, 61, 9, 188, 8, 181, 0, 36, 42, 17, 61, 9, 188, 9, 181, 0, 39, 42]
abbrev dktX21_init_2 : List UInt8 := dkwX21_init_2 ++ dktX21_init_3
def dkwX21_init_1 : List UInt8 := [188, 9, 181, 0, 21, 42, 16, 6, 188, 10, 181, 0, 25, 42, 16, 36, 188, 8, 181, 0, 29, 42, 16, 6]
abbrev dktX21_init_1 : List UInt8 := dkwX21_init_1 ++ dktX21_init_2
def dkwX21_init_0 : List UInt8 := [42, 183, 0, 1, 42, 7, 189, 0, 7, 181, 0, 9, 42, 16, 6, 189, 0, 15, 181, 0, 17, 42, 16, 36]
abbrev dktX21_init_0 : List UInt8 := dkwX21_init_0 ++ dktX21_init_1
theorem dksX21_init_0 : cX21_init.data.toList.drop 0 = dktX21_init_0 := by decide +kernel
theorem dksX21_init_1 : cX21_init.data.toList.drop 24 = dktX21_init_1 := dk_seg dksX21_init_0 24 rfl rfl
theorem dksX21_init_2 : cX21_init.data.toList.drop 48 = dktX21_init_2 := dk_seg dksX21_init_1 24 rfl rfl
theorem dksX21_init_3 : cX21_init.data.toList.drop 72 = dktX21_init_3 := dk_seg dksX21_init_2 24 rfl rfl
theorem dksX21_init_4 : cX21_init.data.toList.drop 96 = dktX21_init_4 := dk_seg dksX21_init_3 24 rfl rfl
theorem dksX21_init_5 : cX21_init.data.toList.drop 120 = dktX21_init_5 := dk_seg dksX21_init_4 24 rfl rfl
theorem dksX21_init_6 : cX21_init.data.toList.drop 144 = dktX21_init_6 := dk_seg dksX21_init_5 24 rfl rfl
theorem dX21_init_0 : decode cX21_init 0 = .ok (.aload_n 0, 1) := dk_42 (dk_at dksX21_init_0 0 rfl rfl)
theorem dX21_init_1 : decode cX21_init 1 = .ok (.invokespecial 1, 3) := dk_183 0 1 (dk_at dksX21_init_0 1 rfl rfl)
theorem dX21_init_4 : decode cX21_init 4 = .ok (.aload_n 0, 1) := dk_42 (dk_at dksX21_init_0 4 rfl rfl)
theorem dX21_init_5 : decode cX21_init 5 = .ok (.iconst 4, 1) := dk_7 (dk_at dksX21_init_0 5 rfl rfl)
theorem dX21_init_6 : decode cX21_init 6 = .ok (.anewarray 7, 3) := dk_189 0 7 (dk_at dksX21_init_0 6 rfl rfl)
theorem dX21_init_9 : decode cX21_init 9 = .ok (.putfield 9, 3) := dk_181 0 9 (dk_at dksX21_init_0 9 rfl rfl)
theorem dX21_init_12 : decode cX21_init 12 = .ok (.aload_n 0, 1) := dk_42 (dk_at dksX21_init_0 12 rfl rfl)
theorem dX21_init_13 : decode cX21_init 13 = .ok (.bipush 6, 2) := dk_16 6 (dk_at dksX21_init_0 13 rfl rfl)
theorem dX21_init_15 : decode cX21_init 15 = .ok (.anewarray 15, 3) := dk_189 0 15 (dk_at dksX21_init_0 15 rfl rfl)
theorem dX21_init_18 : decode cX21_init 18 = .ok (.putfield 17, 3) := dk_181 0 17 (dk_at dksX21_init_0 18 rfl rfl)
theorem dX21_init_21 : decode cX21_init 21 = .ok (.aload_n 0, 1) := dk_42 (dk_at dksX21_init_0 21 rfl rfl)
theorem dX21_init_22 : decode cX21_init 22 = .ok (.bipush 36, 2) := dk_16 36 (dk_at dksX21_init_0 22 rfl rfl)
theorem dX21_init_24 : decode cX21_init 24 = .ok (.newarray .short, 2) := dk_188_9 (dk_at dksX21_init_1 0 rfl rfl)
theorem dX21_init_26 : decode cX21_init 26 = .ok (.putfield 21, 3) := dk_181 0 21 (dk_at dksX21_init_1 2 rfl rfl)
theorem dX21_init_29 : decode cX21_init 29 = .ok (.aload_n 0, 1) := dk_42 (dk_at dksX21_init_1 5 rfl rfl)
theorem dX21_init_30 : decode cX21_init 30 = .ok (.bipush 6, 2) := dk_16 6 (dk_at dksX21_init_1 6 rfl rfl)
theorem dX21_init_32 : decode cX21_init 32 = .ok (.newarray .int, 2) := dk_188_10 (dk_at dksX21_init_1 8 rfl rfl)
theorem dX21_init_34 : decode cX21_init 34 = .ok (.putfield 25, 3) := dk_181 0 25 (dk_at dksX21_init_1 10 rfl rfl)
theorem dX21_init_37 : decode cX21_init 37 = .ok (.aload_n 0, 1) := dk_42 (dk_at dksX21_init_1 13 rfl rfl)
theorem dX21_init_38 : decode cX21_init 38 = .ok (.bipush 36, 2) := dk_16 36 (dk_at dksX21_init_1 14 rfl rfl)
theorem dX21_init_40 : decode cX21_init 40 = .ok (.newarray .byte, 2) := dk_188_8 (dk_at dksX21_init_1 16 rfl rfl)
theorem dX21_init_42 : decode cX21_init 42 = .ok (.putfield 29, 3) := dk_181 0 29 (dk_at dksX21_init_1 18 rfl rfl)
theorem dX21_init_45 : decode cX21_init 45 = .ok (.aload_n 0, 1) := dk_42 (dk_at dksX21_init_1 21 rfl rfl)
theorem dX21_init_46 : decode cX21_init 46 = .ok (.bipush 6, 2) := dk_16 6 (dk_at dksX21_init_1 22 rfl rfl)
theorem dX21_init_48 : decode cX21_init 48 = .ok (.newarray .int, 2) := dk_188_10 (dk_at dksX21_init_2 0 rfl rfl)
theorem dX21_init_50 : decode cX21_init 50 = .ok (.putfield 33, 3) := dk_181 0 33 (dk_at dksX21_init_2 2 rfl rfl)
theorem dX21_init_53 : decode cX21_init 53 = .ok (.aload_n 0, 1) := dk_42 (dk_at dksX21_init_2 5 rfl rfl)
theorem dX21_init_54 : decode cX21_init 54 = .ok (.sipush 15625, 3) := dk_17 61 9 (dk_at dksX21_init_2 6 rfl rfl)
theorem dX21_init_57 : decode cX21_init 57 = .ok (.newarray .byte, 2) := dk_188_8 (dk_at dksX21_init_2 9 rfl rfl)
theorem dX21_init_59 : decode cX21_init 59 = .ok (.putfield 36, 3) := dk_181 0 36 (dk_at dksX21_init_2 11 rfl rfl)
theorem dX21_init_62 : decode cX21_init 62 = .ok (.aload_n 0, 1) := dk_42 (dk_at dksX21_init_2 14 rfl rfl)
theorem dX21_init_63 : decode cX21_init 63 = .ok (.sipush 15625, 3) := dk_17 61 9 (dk_at dksX21_init_2 15 rfl rfl)
theorem dX21_init_66 : decode cX21_init 66 = .ok (.newarray .short, 2) := dk_188_9 (dk_at dksX21_init_2 18 rfl rfl)
theorem dX21_init_68 : decode cX21_init 68 = .ok (.putfield 39, 3) := dk_181 0 39 (dk_at dksX21_init_2 20 rfl rfl)
theorem dX21_init_71 : decode cX21_init 71 = .ok (.aload_n 0, 1) := dk_42 (dk_at dksX21_init_2 23 rfl rfl)
theorem dX21_init_72 : decode cX21_init 72 = .ok (.bipush 64, 2) := dk_16 64 (dk_at dksX21_init_3 0 rfl rfl)
theorem dX21_init_74 : decode cX21_init 74 = .ok (.newarray .byte, 2) := dk_188_8 (dk_at dksX21_init_3 2 rfl rfl)
theorem dX21_init_76 : decode cX21_init 76 = .ok (.putfield 42, 3) := dk_181 0 42 (dk_at dksX21_init_3 4 rfl rfl)
theorem dX21_init_79 : decode cX21_init 79 = .ok (.aload_n 0, 1) := dk_42 (dk_at dksX21_init_3 7 rfl rfl)
theorem dX21_init_80 : decode cX21_init 80 = .ok (.bipush 64, 2) := dk_16 64 (dk_at dksX21_init_3 8 rfl rfl)
theorem dX21_init_82 : decode cX21_init 82 = .ok (.newarray .byte, 2) := dk_188_8 (dk_at dksX21_init_3 10 rfl rfl)
theorem dX21_init_84 : decode cX21_init 84 = .ok (.putfield 45, 3) := dk_181 0 45 (dk_at dksX21_init_3 12 rfl rfl)
theorem dX21_init_87 : decode cX21_init 87 = .ok (.aload_n 0, 1) := dk_42 (dk_at dksX21_init_3 15 rfl rfl)
theorem dX21_init_88 : decode cX21_init 88 = .ok (.iconst (-1), 1) := dk_2 (dk_at dksX21_init_3 16 rfl rfl)
theorem dX21_init_89 : decode cX21_init 89 = .ok (.putfield 48, 3) := dk_181 0 48 (dk_at dksX21_init_3 17 rfl rfl)
theorem dX21_init_92 : decode cX21_init 92 = .ok (.iconst 0, 1) := dk_3 (dk_at dksX21_init_3 20 rfl rfl)
theorem dX21_init_93 : decode cX21_init 93 = .ok (.istore_n 1, 1) := dk_60 (dk_at dksX21_init_3 21 rfl rfl)
theorem dX21_init_94 : decode cX21_init 94 = .ok (.iload_n 1, 1) := dk_27 (dk_at dksX21_init_3 22 rfl rfl)
theorem dX21_init_95 : decode cX21_init 95 = .ok (.iconst 4, 1) := dk_7 (dk_at dksX21_init_3 23 rfl rfl)
theorem dX21_init_96 : decode cX21_init 96 = .ok (.if_icmp .ge 22, 3) := dk_162 0 22 (dk_at dksX21_init_4 0 rfl rfl)
theorem dX21_init_99 : decode cX21_init 99 = .ok (.aload_n 0, 1) := dk_42 (dk_at dksX21_init_4 3 rfl rfl)
theorem dX21_init_100 : decode cX21_init 100 = .ok (.getfield 9, 3) := dk_180 0 9 (dk_at dksX21_init_4 4 rfl rfl)
theorem dX21_init_103 : decode cX21_init 103 = .ok (.iload_n 1, 1) := dk_27 (dk_at dksX21_init_4 7 rfl rfl)
theorem dX21_init_104 : decode cX21_init 104 = .ok (.new 7, 3) := dk_187 0 7 (dk_at dksX21_init_4 8 rfl rfl)
theorem dX21_init_107 : decode cX21_init 107 = .ok (.dup, 1) := dk_89 (dk_at dksX21_init_4 11 rfl rfl)
theorem dX21_init_108 : decode cX21_init 108 = .ok (.invokespecial 52, 3) := dk_183 0 52 (dk_at dksX21_init_4 12 rfl rfl)
theorem dX21_init_111 : decode cX21_init 111 = .ok (.aastore, 1) := dk_83 (dk_at dksX21_init_4 15 rfl rfl)
theorem dX21_init_112 : decode cX21_init 112 = .ok (.iinc 1 1, 3) := dk_132 1 1 (dk_at dksX21_init_4 16 rfl rfl)
theorem dX21_init_115 : decode cX21_init 115 = .ok (.goto (-21), 3) := dk_167 255 235 (dk_at dksX21_init_4 19 rfl rfl)
theorem dX21_init_118 : decode cX21_init 118 = .ok (.iconst 0, 1) := dk_3 (dk_at dksX21_init_4 22 rfl rfl)
theorem dX21_init_119 : decode cX21_init 119 = .ok (.istore_n 1, 1) := dk_60 (dk_at dksX21_init_4 23 rfl rfl)
theorem dX21_init_120 : decode cX21_init 120 = .ok (.iload_n 1, 1) := dk_27 (dk_at dksX21_init_5 0 rfl rfl)
theorem dX21_init_121 : decode cX21_init 121 = .ok (.bipush 6, 2) := dk_16 6 (dk_at dksX21_init_5 1 rfl rfl)
theorem dX21_init_123 : decode cX21_init 123 = .ok (.if_icmp .ge 30, 3) := dk_162 0 30 (dk_at dksX21_init_5 3 rfl rfl)
theorem dX21_init_126 : decode cX21_init 126 = .ok (.aload_n 0, 1) := dk_42 (dk_at dksX21_init_5 6 rfl rfl)
theorem dX21_init_127 : decode cX21_init 127 = .ok (.getfield 17, 3) := dk_180 0 17 (dk_at dksX21_init_5 7 rfl rfl)
theorem dX21_init_130 : decode cX21_init 130 = .ok (.iload_n 1, 1) := dk_27 (dk_at dksX21_init_5 10 rfl rfl)
theorem dX21_init_131 : decode cX21_init 131 = .ok (.new 15, 3) := dk_187 0 15 (dk_at dksX21_init_5 11 rfl rfl)
theorem dX21_init_134 : decode cX21_init 134 = .ok (.dup, 1) := dk_89 (dk_at dksX21_init_5 14 rfl rfl)
theorem dX21_init_135 : decode cX21_init 135 = .ok (.invokespecial 53, 3) := dk_183 0 53 (dk_at dksX21_init_5 15 rfl rfl)
theorem dX21_init_138 : decode cX21_init 138 = .ok (.aastore, 1) := dk_83 (dk_at dksX21_init_5 18 rfl rfl)
theorem dX21_init_139 : decode cX21_init 139 = .ok (.aload_n 0, 1) := dk_42 (dk_at dksX21_init_5 19 rfl rfl)
theorem dX21_init_140 : decode cX21_init 140 = .ok (.getfield 25, 3) := dk_180 0 25 (dk_at dksX21_init_5 20 rfl rfl)
theorem dX21_init_143 : decode cX21_init 143 = .ok (.iload_n 1, 1) := dk_27 (dk_at dksX21_init_5 23 rfl rfl)
theorem dX21_init_144 : decode cX21_init 144 = .ok (.ldc 54, 2) := dk_18 54 (dk_at dksX21_init_6 0 rfl rfl)
theorem dX21_init_146 : decode cX21_init 146 = .ok (.iastore, 1) := dk_79 (dk_at dksX21_init_6 2 rfl rfl)
theorem dX21_init_147 : decode cX21_init 147 = .ok (.iinc 1 1, 3) := dk_132 1 1 (dk_at dksX21_init_6 3 rfl rfl)
theorem dX21_init_150 : decode cX21_init 150 = .ok (.goto (-30), 3) := dk_167 255 226 (dk_at dksX21_init_6 6 rfl rfl)
theorem dX21_init_153 : decode cX21_init 153 = .ok (.return_, 1) := dk_177 (dk_at dksX21_init_6 9 rfl rfl)
abbrev cX21_load : ByteArray := prog_6_method_9_code
def yX21_load : MethodName := ⟨RX21, "load", "(IJJ)I"⟩
def dkwX21_load_3 : List UInt8 := [181, 0, 103, 42, 89, 180, 0, 58, 90, 4, 96, 181, 0, 58, 172]
abbrev dktX21_load_3 : List UInt8 := dkwX21_load_3 ++ []
def dkwX21_load_2 : List UInt8 := [180, 0, 58, 50, 58, 6, 25, 6, 27, 181, 0, 96, 25, 6, 32, 181, 0, 99, 25, 6, 22, 4]
abbrev dktX21_load_2 : List UInt8 := dkwX21_load_2 ++ dktX21_load_3
def dkwX21_load_1 : List UInt8 := [153, 0, 15, 22, 4, 9, 20, 0, 94, 184, 0, 71, 154, 0, 5, 2, 172, 42, 180, 0, 17, 42]
abbrev dktX21_load_1 : List UInt8 := dkwX21_load_1 ++ dktX21_load_2
def dkwX21_load_0 : List UInt8 := [42, 180, 0, 58, 16, 6, 159, 0, 33, 27, 184, 0, 65, 153, 0, 26, 32, 9, 20, 0, 92, 184, 0, 71]
abbrev dktX21_load_0 : List UInt8 := dkwX21_load_0 ++ dktX21_load_1
theorem dksX21_load_0 : cX21_load.data.toList.drop 0 = dktX21_load_0 := by decide +kernel
theorem dksX21_load_1 : cX21_load.data.toList.drop 24 = dktX21_load_1 := dk_seg dksX21_load_0 24 rfl rfl
theorem dksX21_load_2 : cX21_load.data.toList.drop 46 = dktX21_load_2 := dk_seg dksX21_load_1 22 rfl rfl
theorem dksX21_load_3 : cX21_load.data.toList.drop 68 = dktX21_load_3 := dk_seg dksX21_load_2 22 rfl rfl
theorem dX21_load_0 : decode cX21_load 0 = .ok (.aload_n 0, 1) := dk_42 (dk_at dksX21_load_0 0 rfl rfl)
theorem dX21_load_1 : decode cX21_load 1 = .ok (.getfield 58, 3) := dk_180 0 58 (dk_at dksX21_load_0 1 rfl rfl)
theorem dX21_load_4 : decode cX21_load 4 = .ok (.bipush 6, 2) := dk_16 6 (dk_at dksX21_load_0 4 rfl rfl)
theorem dX21_load_6 : decode cX21_load 6 = .ok (.if_icmp .eq 33, 3) := dk_159 0 33 (dk_at dksX21_load_0 6 rfl rfl)
theorem dX21_load_9 : decode cX21_load 9 = .ok (.iload_n 1, 1) := dk_27 (dk_at dksX21_load_0 9 rfl rfl)
theorem dX21_load_10 : decode cX21_load 10 = .ok (.invokestatic 65, 3) := dk_184 0 65 (dk_at dksX21_load_0 10 rfl rfl)
theorem dX21_load_13 : decode cX21_load 13 = .ok (.ifCond .eq 26, 3) := dk_153 0 26 (dk_at dksX21_load_0 13 rfl rfl)
theorem dX21_load_16 : decode cX21_load 16 = .ok (.lload_n 2, 1) := dk_32 (dk_at dksX21_load_0 16 rfl rfl)
theorem dX21_load_17 : decode cX21_load 17 = .ok (.lconst 0, 1) := dk_9 (dk_at dksX21_load_0 17 rfl rfl)
theorem dX21_load_18 : decode cX21_load 18 = .ok (.ldc2_w 92, 3) := dk_20 0 92 (dk_at dksX21_load_0 18 rfl rfl)
theorem dX21_load_21 : decode cX21_load 21 = .ok (.invokestatic 71, 3) := dk_184 0 71 (dk_at dksX21_load_0 21 rfl rfl)
theorem dX21_load_24 : decode cX21_load 24 = .ok (.ifCond .eq 15, 3) := dk_153 0 15 (dk_at dksX21_load_1 0 rfl rfl)
theorem dX21_load_27 : decode cX21_load 27 = .ok (.lload 4, 2) := dk_22 4 (dk_at dksX21_load_1 3 rfl rfl)
theorem dX21_load_29 : decode cX21_load 29 = .ok (.lconst 0, 1) := dk_9 (dk_at dksX21_load_1 5 rfl rfl)
theorem dX21_load_30 : decode cX21_load 30 = .ok (.ldc2_w 94, 3) := dk_20 0 94 (dk_at dksX21_load_1 6 rfl rfl)
theorem dX21_load_33 : decode cX21_load 33 = .ok (.invokestatic 71, 3) := dk_184 0 71 (dk_at dksX21_load_1 9 rfl rfl)
theorem dX21_load_36 : decode cX21_load 36 = .ok (.ifCond .ne 5, 3) := dk_154 0 5 (dk_at dksX21_load_1 12 rfl rfl)
theorem dX21_load_39 : decode cX21_load 39 = .ok (.iconst (-1), 1) := dk_2 (dk_at dksX21_load_1 15 rfl rfl)
theorem dX21_load_40 : decode cX21_load 40 = .ok (.ireturn, 1) := dk_172 (dk_at dksX21_load_1 16 rfl rfl)
theorem dX21_load_41 : decode cX21_load 41 = .ok (.aload_n 0, 1) := dk_42 (dk_at dksX21_load_1 17 rfl rfl)
theorem dX21_load_42 : decode cX21_load 42 = .ok (.getfield 17, 3) := dk_180 0 17 (dk_at dksX21_load_1 18 rfl rfl)
theorem dX21_load_45 : decode cX21_load 45 = .ok (.aload_n 0, 1) := dk_42 (dk_at dksX21_load_1 21 rfl rfl)
theorem dX21_load_46 : decode cX21_load 46 = .ok (.getfield 58, 3) := dk_180 0 58 (dk_at dksX21_load_2 0 rfl rfl)
theorem dX21_load_49 : decode cX21_load 49 = .ok (.aaload, 1) := dk_50 (dk_at dksX21_load_2 3 rfl rfl)
theorem dX21_load_50 : decode cX21_load 50 = .ok (.astore 6, 2) := dk_58 6 (dk_at dksX21_load_2 4 rfl rfl)
theorem dX21_load_52 : decode cX21_load 52 = .ok (.aload 6, 2) := dk_25 6 (dk_at dksX21_load_2 6 rfl rfl)
theorem dX21_load_54 : decode cX21_load 54 = .ok (.iload_n 1, 1) := dk_27 (dk_at dksX21_load_2 8 rfl rfl)
theorem dX21_load_55 : decode cX21_load 55 = .ok (.putfield 96, 3) := dk_181 0 96 (dk_at dksX21_load_2 9 rfl rfl)
theorem dX21_load_58 : decode cX21_load 58 = .ok (.aload 6, 2) := dk_25 6 (dk_at dksX21_load_2 12 rfl rfl)
theorem dX21_load_60 : decode cX21_load 60 = .ok (.lload_n 2, 1) := dk_32 (dk_at dksX21_load_2 14 rfl rfl)
theorem dX21_load_61 : decode cX21_load 61 = .ok (.putfield 99, 3) := dk_181 0 99 (dk_at dksX21_load_2 15 rfl rfl)
theorem dX21_load_64 : decode cX21_load 64 = .ok (.aload 6, 2) := dk_25 6 (dk_at dksX21_load_2 18 rfl rfl)
theorem dX21_load_66 : decode cX21_load 66 = .ok (.lload 4, 2) := dk_22 4 (dk_at dksX21_load_2 20 rfl rfl)
theorem dX21_load_68 : decode cX21_load 68 = .ok (.putfield 103, 3) := dk_181 0 103 (dk_at dksX21_load_3 0 rfl rfl)
theorem dX21_load_71 : decode cX21_load 71 = .ok (.aload_n 0, 1) := dk_42 (dk_at dksX21_load_3 3 rfl rfl)
theorem dX21_load_72 : decode cX21_load 72 = .ok (.dup, 1) := dk_89 (dk_at dksX21_load_3 4 rfl rfl)
theorem dX21_load_73 : decode cX21_load 73 = .ok (.getfield 58, 3) := dk_180 0 58 (dk_at dksX21_load_3 5 rfl rfl)
theorem dX21_load_76 : decode cX21_load 76 = .ok (.dup_x1, 1) := dk_90 (dk_at dksX21_load_3 8 rfl rfl)
theorem dX21_load_77 : decode cX21_load 77 = .ok (.iconst 1, 1) := dk_4 (dk_at dksX21_load_3 9 rfl rfl)
theorem dX21_load_78 : decode cX21_load 78 = .ok (.iadd, 1) := dk_96 (dk_at dksX21_load_3 10 rfl rfl)
theorem dX21_load_79 : decode cX21_load 79 = .ok (.putfield 58, 3) := dk_181 0 58 (dk_at dksX21_load_3 11 rfl rfl)
theorem dX21_load_82 : decode cX21_load 82 = .ok (.ireturn, 1) := dk_172 (dk_at dksX21_load_3 14 rfl rfl)
abbrev cX21_isClass : ByteArray := prog_6_method_3_code
def yX21_isClass : MethodName := ⟨RX21, "isClass", "(I)Z"⟩
def dkwX21_isClass_0 : List UInt8 := [26, 155, 0, 13, 26, 16, 6, 162, 0, 7, 4, 167, 0, 4, 3, 172]
abbrev dktX21_isClass_0 : List UInt8 := dkwX21_isClass_0 ++ []
theorem dksX21_isClass_0 : cX21_isClass.data.toList.drop 0 = dktX21_isClass_0 := by decide +kernel
theorem dX21_isClass_0 : decode cX21_isClass 0 = .ok (.iload_n 0, 1) := dk_26 (dk_at dksX21_isClass_0 0 rfl rfl)
theorem dX21_isClass_1 : decode cX21_isClass 1 = .ok (.ifCond .lt 13, 3) := dk_155 0 13 (dk_at dksX21_isClass_0 1 rfl rfl)
theorem dX21_isClass_4 : decode cX21_isClass 4 = .ok (.iload_n 0, 1) := dk_26 (dk_at dksX21_isClass_0 4 rfl rfl)
theorem dX21_isClass_5 : decode cX21_isClass 5 = .ok (.bipush 6, 2) := dk_16 6 (dk_at dksX21_isClass_0 5 rfl rfl)
theorem dX21_isClass_7 : decode cX21_isClass 7 = .ok (.if_icmp .ge 7, 3) := dk_162 0 7 (dk_at dksX21_isClass_0 7 rfl rfl)
theorem dX21_isClass_10 : decode cX21_isClass 10 = .ok (.iconst 1, 1) := dk_4 (dk_at dksX21_isClass_0 10 rfl rfl)
theorem dX21_isClass_11 : decode cX21_isClass 11 = .ok (.goto 4, 3) := dk_167 0 4 (dk_at dksX21_isClass_0 11 rfl rfl)
theorem dX21_isClass_14 : decode cX21_isClass 14 = .ok (.iconst 0, 1) := dk_3 (dk_at dksX21_isClass_0 14 rfl rfl)
theorem dX21_isClass_15 : decode cX21_isClass 15 = .ok (.ireturn, 1) := dk_172 (dk_at dksX21_isClass_0 15 rfl rfl)
abbrev cX21_isIn : ByteArray := prog_6_method_2_code
def yX21_isIn : MethodName := ⟨RX21, "isIn", "(JJJ)Z"⟩
def dkwX21_isIn_0 : List UInt8 := [30, 32, 148, 155, 0, 14, 30, 22, 4, 148, 157, 0, 7, 4, 167, 0, 4, 3, 172]
abbrev dktX21_isIn_0 : List UInt8 := dkwX21_isIn_0 ++ []
theorem dksX21_isIn_0 : cX21_isIn.data.toList.drop 0 = dktX21_isIn_0 := by decide +kernel
theorem dX21_isIn_0 : decode cX21_isIn 0 = .ok (.lload_n 0, 1) := dk_30 (dk_at dksX21_isIn_0 0 rfl rfl)
theorem dX21_isIn_1 : decode cX21_isIn 1 = .ok (.lload_n 2, 1) := dk_32 (dk_at dksX21_isIn_0 1 rfl rfl)
theorem dX21_isIn_2 : decode cX21_isIn 2 = .ok (.lcmp, 1) := dk_148 (dk_at dksX21_isIn_0 2 rfl rfl)
theorem dX21_isIn_3 : decode cX21_isIn 3 = .ok (.ifCond .lt 14, 3) := dk_155 0 14 (dk_at dksX21_isIn_0 3 rfl rfl)
theorem dX21_isIn_6 : decode cX21_isIn 6 = .ok (.lload_n 0, 1) := dk_30 (dk_at dksX21_isIn_0 6 rfl rfl)
theorem dX21_isIn_7 : decode cX21_isIn 7 = .ok (.lload 4, 2) := dk_22 4 (dk_at dksX21_isIn_0 7 rfl rfl)
theorem dX21_isIn_9 : decode cX21_isIn 9 = .ok (.lcmp, 1) := dk_148 (dk_at dksX21_isIn_0 9 rfl rfl)
theorem dX21_isIn_10 : decode cX21_isIn 10 = .ok (.ifCond .gt 7, 3) := dk_157 0 7 (dk_at dksX21_isIn_0 10 rfl rfl)
theorem dX21_isIn_13 : decode cX21_isIn 13 = .ok (.iconst 1, 1) := dk_4 (dk_at dksX21_isIn_0 13 rfl rfl)
theorem dX21_isIn_14 : decode cX21_isIn 14 = .ok (.goto 4, 3) := dk_167 0 4 (dk_at dksX21_isIn_0 14 rfl rfl)
theorem dX21_isIn_17 : decode cX21_isIn 17 = .ok (.iconst 0, 1) := dk_3 (dk_at dksX21_isIn_0 17 rfl rfl)
theorem dX21_isIn_18 : decode cX21_isIn 18 = .ok (.ireturn, 1) := dk_172 (dk_at dksX21_isIn_0 18 rfl rfl)
abbrev cX21_put : ByteArray := prog_6_method_18_code
def yX21_put : MethodName := ⟨RX21, "put", "(II)I"⟩
def dkwX21_put_2 : List UInt8 := [182, 0, 153, 62, 29, 154, 0, 11, 42, 27, 28, 4, 96, 182, 0, 157, 29, 172]
abbrev dktX21_put_2 : List UInt8 := dkwX21_put_2 ++ []
def dkwX21_put_1 : List UInt8 := [182, 0, 140, 42, 180, 0, 33, 27, 28, 4, 96, 79, 28, 2, 160, 0, 7, 3, 167, 0, 9, 42, 27, 28]
abbrev dktX21_put_1 : List UInt8 := dkwX21_put_1 ++ dktX21_put_2
def dkwX21_put_0 : List UInt8 := [42, 27, 182, 0, 147, 153, 0, 16, 28, 2, 159, 0, 13, 42, 28, 182, 0, 150, 154, 0, 5, 2, 172, 42]
abbrev dktX21_put_0 : List UInt8 := dkwX21_put_0 ++ dktX21_put_1
theorem dksX21_put_0 : cX21_put.data.toList.drop 0 = dktX21_put_0 := by decide +kernel
theorem dksX21_put_1 : cX21_put.data.toList.drop 24 = dktX21_put_1 := dk_seg dksX21_put_0 24 rfl rfl
theorem dksX21_put_2 : cX21_put.data.toList.drop 48 = dktX21_put_2 := dk_seg dksX21_put_1 24 rfl rfl
theorem dX21_put_0 : decode cX21_put 0 = .ok (.aload_n 0, 1) := dk_42 (dk_at dksX21_put_0 0 rfl rfl)
theorem dX21_put_1 : decode cX21_put 1 = .ok (.iload_n 1, 1) := dk_27 (dk_at dksX21_put_0 1 rfl rfl)
theorem dX21_put_2 : decode cX21_put 2 = .ok (.invokevirtual 147, 3) := dk_182 0 147 (dk_at dksX21_put_0 2 rfl rfl)
theorem dX21_put_5 : decode cX21_put 5 = .ok (.ifCond .eq 16, 3) := dk_153 0 16 (dk_at dksX21_put_0 5 rfl rfl)
theorem dX21_put_8 : decode cX21_put 8 = .ok (.iload_n 2, 1) := dk_28 (dk_at dksX21_put_0 8 rfl rfl)
theorem dX21_put_9 : decode cX21_put 9 = .ok (.iconst (-1), 1) := dk_2 (dk_at dksX21_put_0 9 rfl rfl)
theorem dX21_put_10 : decode cX21_put 10 = .ok (.if_icmp .eq 13, 3) := dk_159 0 13 (dk_at dksX21_put_0 10 rfl rfl)
theorem dX21_put_13 : decode cX21_put 13 = .ok (.aload_n 0, 1) := dk_42 (dk_at dksX21_put_0 13 rfl rfl)
theorem dX21_put_14 : decode cX21_put 14 = .ok (.iload_n 2, 1) := dk_28 (dk_at dksX21_put_0 14 rfl rfl)
theorem dX21_put_15 : decode cX21_put 15 = .ok (.invokevirtual 150, 3) := dk_182 0 150 (dk_at dksX21_put_0 15 rfl rfl)
theorem dX21_put_18 : decode cX21_put 18 = .ok (.ifCond .ne 5, 3) := dk_154 0 5 (dk_at dksX21_put_0 18 rfl rfl)
theorem dX21_put_21 : decode cX21_put 21 = .ok (.iconst (-1), 1) := dk_2 (dk_at dksX21_put_0 21 rfl rfl)
theorem dX21_put_22 : decode cX21_put 22 = .ok (.ireturn, 1) := dk_172 (dk_at dksX21_put_0 22 rfl rfl)
theorem dX21_put_23 : decode cX21_put 23 = .ok (.aload_n 0, 1) := dk_42 (dk_at dksX21_put_0 23 rfl rfl)
theorem dX21_put_24 : decode cX21_put 24 = .ok (.invokevirtual 140, 3) := dk_182 0 140 (dk_at dksX21_put_1 0 rfl rfl)
theorem dX21_put_27 : decode cX21_put 27 = .ok (.aload_n 0, 1) := dk_42 (dk_at dksX21_put_1 3 rfl rfl)
theorem dX21_put_28 : decode cX21_put 28 = .ok (.getfield 33, 3) := dk_180 0 33 (dk_at dksX21_put_1 4 rfl rfl)
theorem dX21_put_31 : decode cX21_put 31 = .ok (.iload_n 1, 1) := dk_27 (dk_at dksX21_put_1 7 rfl rfl)
theorem dX21_put_32 : decode cX21_put 32 = .ok (.iload_n 2, 1) := dk_28 (dk_at dksX21_put_1 8 rfl rfl)
theorem dX21_put_33 : decode cX21_put 33 = .ok (.iconst 1, 1) := dk_4 (dk_at dksX21_put_1 9 rfl rfl)
theorem dX21_put_34 : decode cX21_put 34 = .ok (.iadd, 1) := dk_96 (dk_at dksX21_put_1 10 rfl rfl)
theorem dX21_put_35 : decode cX21_put 35 = .ok (.iastore, 1) := dk_79 (dk_at dksX21_put_1 11 rfl rfl)
theorem dX21_put_36 : decode cX21_put 36 = .ok (.iload_n 2, 1) := dk_28 (dk_at dksX21_put_1 12 rfl rfl)
theorem dX21_put_37 : decode cX21_put 37 = .ok (.iconst (-1), 1) := dk_2 (dk_at dksX21_put_1 13 rfl rfl)
theorem dX21_put_38 : decode cX21_put 38 = .ok (.if_icmp .ne 7, 3) := dk_160 0 7 (dk_at dksX21_put_1 14 rfl rfl)
theorem dX21_put_41 : decode cX21_put 41 = .ok (.iconst 0, 1) := dk_3 (dk_at dksX21_put_1 17 rfl rfl)
theorem dX21_put_42 : decode cX21_put 42 = .ok (.goto 9, 3) := dk_167 0 9 (dk_at dksX21_put_1 18 rfl rfl)
theorem dX21_put_45 : decode cX21_put 45 = .ok (.aload_n 0, 1) := dk_42 (dk_at dksX21_put_1 21 rfl rfl)
theorem dX21_put_46 : decode cX21_put 46 = .ok (.iload_n 1, 1) := dk_27 (dk_at dksX21_put_1 22 rfl rfl)
theorem dX21_put_47 : decode cX21_put 47 = .ok (.iload_n 2, 1) := dk_28 (dk_at dksX21_put_1 23 rfl rfl)
theorem dX21_put_48 : decode cX21_put 48 = .ok (.invokevirtual 153, 3) := dk_182 0 153 (dk_at dksX21_put_2 0 rfl rfl)
theorem dX21_put_51 : decode cX21_put 51 = .ok (.istore_n 3, 1) := dk_62 (dk_at dksX21_put_2 3 rfl rfl)
theorem dX21_put_52 : decode cX21_put 52 = .ok (.iload_n 3, 1) := dk_29 (dk_at dksX21_put_2 4 rfl rfl)
theorem dX21_put_53 : decode cX21_put 53 = .ok (.ifCond .ne 11, 3) := dk_154 0 11 (dk_at dksX21_put_2 5 rfl rfl)
theorem dX21_put_56 : decode cX21_put 56 = .ok (.aload_n 0, 1) := dk_42 (dk_at dksX21_put_2 8 rfl rfl)
theorem dX21_put_57 : decode cX21_put 57 = .ok (.iload_n 1, 1) := dk_27 (dk_at dksX21_put_2 9 rfl rfl)
theorem dX21_put_58 : decode cX21_put 58 = .ok (.iload_n 2, 1) := dk_28 (dk_at dksX21_put_2 10 rfl rfl)
theorem dX21_put_59 : decode cX21_put 59 = .ok (.iconst 1, 1) := dk_4 (dk_at dksX21_put_2 11 rfl rfl)
theorem dX21_put_60 : decode cX21_put 60 = .ok (.iadd, 1) := dk_96 (dk_at dksX21_put_2 12 rfl rfl)
theorem dX21_put_61 : decode cX21_put 61 = .ok (.invokevirtual 157, 3) := dk_182 0 157 (dk_at dksX21_put_2 13 rfl rfl)
theorem dX21_put_64 : decode cX21_put 64 = .ok (.iload_n 3, 1) := dk_29 (dk_at dksX21_put_2 16 rfl rfl)
theorem dX21_put_65 : decode cX21_put 65 = .ok (.ireturn, 1) := dk_172 (dk_at dksX21_put_2 17 rfl rfl)
abbrev cX21_isLoad : ByteArray := prog_6_method_5_code
def yX21_isLoad : MethodName := ⟨RX21, "isLoad", "(I)Z"⟩
def dkwX21_isLoad_1 : List UInt8 := [4, 167, 0, 4, 3, 172]
abbrev dktX21_isLoad_1 : List UInt8 := dkwX21_isLoad_1 ++ []
def dkwX21_isLoad_0 : List UInt8 := [27, 155, 0, 27, 27, 42, 180, 0, 58, 162, 0, 19, 42, 180, 0, 17, 27, 50, 180, 0, 61, 154, 0, 7]
abbrev dktX21_isLoad_0 : List UInt8 := dkwX21_isLoad_0 ++ dktX21_isLoad_1
theorem dksX21_isLoad_0 : cX21_isLoad.data.toList.drop 0 = dktX21_isLoad_0 := by decide +kernel
theorem dksX21_isLoad_1 : cX21_isLoad.data.toList.drop 24 = dktX21_isLoad_1 := dk_seg dksX21_isLoad_0 24 rfl rfl
theorem dX21_isLoad_0 : decode cX21_isLoad 0 = .ok (.iload_n 1, 1) := dk_27 (dk_at dksX21_isLoad_0 0 rfl rfl)
theorem dX21_isLoad_1 : decode cX21_isLoad 1 = .ok (.ifCond .lt 27, 3) := dk_155 0 27 (dk_at dksX21_isLoad_0 1 rfl rfl)
theorem dX21_isLoad_4 : decode cX21_isLoad 4 = .ok (.iload_n 1, 1) := dk_27 (dk_at dksX21_isLoad_0 4 rfl rfl)
theorem dX21_isLoad_5 : decode cX21_isLoad 5 = .ok (.aload_n 0, 1) := dk_42 (dk_at dksX21_isLoad_0 5 rfl rfl)
theorem dX21_isLoad_6 : decode cX21_isLoad 6 = .ok (.getfield 58, 3) := dk_180 0 58 (dk_at dksX21_isLoad_0 6 rfl rfl)
theorem dX21_isLoad_9 : decode cX21_isLoad 9 = .ok (.if_icmp .ge 19, 3) := dk_162 0 19 (dk_at dksX21_isLoad_0 9 rfl rfl)
theorem dX21_isLoad_12 : decode cX21_isLoad 12 = .ok (.aload_n 0, 1) := dk_42 (dk_at dksX21_isLoad_0 12 rfl rfl)
theorem dX21_isLoad_13 : decode cX21_isLoad 13 = .ok (.getfield 17, 3) := dk_180 0 17 (dk_at dksX21_isLoad_0 13 rfl rfl)
theorem dX21_isLoad_16 : decode cX21_isLoad 16 = .ok (.iload_n 1, 1) := dk_27 (dk_at dksX21_isLoad_0 16 rfl rfl)
theorem dX21_isLoad_17 : decode cX21_isLoad 17 = .ok (.aaload, 1) := dk_50 (dk_at dksX21_isLoad_0 17 rfl rfl)
theorem dX21_isLoad_18 : decode cX21_isLoad 18 = .ok (.getfield 61, 3) := dk_180 0 61 (dk_at dksX21_isLoad_0 18 rfl rfl)
theorem dX21_isLoad_21 : decode cX21_isLoad 21 = .ok (.ifCond .ne 7, 3) := dk_154 0 7 (dk_at dksX21_isLoad_0 21 rfl rfl)
theorem dX21_isLoad_24 : decode cX21_isLoad 24 = .ok (.iconst 1, 1) := dk_4 (dk_at dksX21_isLoad_1 0 rfl rfl)
theorem dX21_isLoad_25 : decode cX21_isLoad 25 = .ok (.goto 4, 3) := dk_167 0 4 (dk_at dksX21_isLoad_1 1 rfl rfl)
theorem dX21_isLoad_28 : decode cX21_isLoad 28 = .ok (.iconst 0, 1) := dk_3 (dk_at dksX21_isLoad_1 4 rfl rfl)
theorem dX21_isLoad_29 : decode cX21_isLoad 29 = .ok (.ireturn, 1) := dk_172 (dk_at dksX21_isLoad_1 5 rfl rfl)
abbrev cX21_isPlace : ByteArray := prog_6_method_4_code
def yX21_isPlace : MethodName := ⟨RX21, "isPlace", "(I)Z"⟩
def dkwX21_isPlace_0 : List UInt8 := [27, 155, 0, 15, 27, 42, 180, 0, 55, 162, 0, 7, 4, 167, 0, 4, 3, 172]
abbrev dktX21_isPlace_0 : List UInt8 := dkwX21_isPlace_0 ++ []
theorem dksX21_isPlace_0 : cX21_isPlace.data.toList.drop 0 = dktX21_isPlace_0 := by decide +kernel
theorem dX21_isPlace_0 : decode cX21_isPlace 0 = .ok (.iload_n 1, 1) := dk_27 (dk_at dksX21_isPlace_0 0 rfl rfl)
theorem dX21_isPlace_1 : decode cX21_isPlace 1 = .ok (.ifCond .lt 15, 3) := dk_155 0 15 (dk_at dksX21_isPlace_0 1 rfl rfl)
theorem dX21_isPlace_4 : decode cX21_isPlace 4 = .ok (.iload_n 1, 1) := dk_27 (dk_at dksX21_isPlace_0 4 rfl rfl)
theorem dX21_isPlace_5 : decode cX21_isPlace 5 = .ok (.aload_n 0, 1) := dk_42 (dk_at dksX21_isPlace_0 5 rfl rfl)
theorem dX21_isPlace_6 : decode cX21_isPlace 6 = .ok (.getfield 55, 3) := dk_180 0 55 (dk_at dksX21_isPlace_0 6 rfl rfl)
theorem dX21_isPlace_9 : decode cX21_isPlace 9 = .ok (.if_icmp .ge 7, 3) := dk_162 0 7 (dk_at dksX21_isPlace_0 9 rfl rfl)
theorem dX21_isPlace_12 : decode cX21_isPlace 12 = .ok (.iconst 1, 1) := dk_4 (dk_at dksX21_isPlace_0 12 rfl rfl)
theorem dX21_isPlace_13 : decode cX21_isPlace 13 = .ok (.goto 4, 3) := dk_167 0 4 (dk_at dksX21_isPlace_0 13 rfl rfl)
theorem dX21_isPlace_16 : decode cX21_isPlace 16 = .ok (.iconst 0, 1) := dk_3 (dk_at dksX21_isPlace_0 16 rfl rfl)
theorem dX21_isPlace_17 : decode cX21_isPlace 17 = .ok (.ireturn, 1) := dk_172 (dk_at dksX21_isPlace_0 17 rfl rfl)
abbrev cX21_look : ByteArray := prog_6_method_10_code
def yX21_look : MethodName := ⟨RX21, "look", "()V"⟩
def dkwX21_look_1 : List UInt8 := [79, 132, 1, 1, 167, 255, 230, 177]
abbrev dktX21_look_1 : List UInt8 := dkwX21_look_1 ++ []
def dkwX21_look_0 : List UInt8 := [3, 60, 27, 42, 180, 0, 58, 162, 0, 24, 42, 180, 0, 33, 27, 42, 180, 0, 17, 27, 50, 180, 0, 106]
abbrev dktX21_look_0 : List UInt8 := dkwX21_look_0 ++ dktX21_look_1
theorem dksX21_look_0 : cX21_look.data.toList.drop 0 = dktX21_look_0 := by decide +kernel
theorem dksX21_look_1 : cX21_look.data.toList.drop 24 = dktX21_look_1 := dk_seg dksX21_look_0 24 rfl rfl
theorem dX21_look_0 : decode cX21_look 0 = .ok (.iconst 0, 1) := dk_3 (dk_at dksX21_look_0 0 rfl rfl)
theorem dX21_look_1 : decode cX21_look 1 = .ok (.istore_n 1, 1) := dk_60 (dk_at dksX21_look_0 1 rfl rfl)
theorem dX21_look_2 : decode cX21_look 2 = .ok (.iload_n 1, 1) := dk_27 (dk_at dksX21_look_0 2 rfl rfl)
theorem dX21_look_3 : decode cX21_look 3 = .ok (.aload_n 0, 1) := dk_42 (dk_at dksX21_look_0 3 rfl rfl)
theorem dX21_look_4 : decode cX21_look 4 = .ok (.getfield 58, 3) := dk_180 0 58 (dk_at dksX21_look_0 4 rfl rfl)
theorem dX21_look_7 : decode cX21_look 7 = .ok (.if_icmp .ge 24, 3) := dk_162 0 24 (dk_at dksX21_look_0 7 rfl rfl)
theorem dX21_look_10 : decode cX21_look 10 = .ok (.aload_n 0, 1) := dk_42 (dk_at dksX21_look_0 10 rfl rfl)
theorem dX21_look_11 : decode cX21_look 11 = .ok (.getfield 33, 3) := dk_180 0 33 (dk_at dksX21_look_0 11 rfl rfl)
theorem dX21_look_14 : decode cX21_look 14 = .ok (.iload_n 1, 1) := dk_27 (dk_at dksX21_look_0 14 rfl rfl)
theorem dX21_look_15 : decode cX21_look 15 = .ok (.aload_n 0, 1) := dk_42 (dk_at dksX21_look_0 15 rfl rfl)
theorem dX21_look_16 : decode cX21_look 16 = .ok (.getfield 17, 3) := dk_180 0 17 (dk_at dksX21_look_0 16 rfl rfl)
theorem dX21_look_19 : decode cX21_look 19 = .ok (.iload_n 1, 1) := dk_27 (dk_at dksX21_look_0 19 rfl rfl)
theorem dX21_look_20 : decode cX21_look 20 = .ok (.aaload, 1) := dk_50 (dk_at dksX21_look_0 20 rfl rfl)
theorem dX21_look_21 : decode cX21_look 21 = .ok (.getfield 106, 3) := dk_180 0 106 (dk_at dksX21_look_0 21 rfl rfl)
theorem dX21_look_24 : decode cX21_look 24 = .ok (.iastore, 1) := dk_79 (dk_at dksX21_look_1 0 rfl rfl)
theorem dX21_look_25 : decode cX21_look 25 = .ok (.iinc 1 1, 3) := dk_132 1 1 (dk_at dksX21_look_1 1 rfl rfl)
theorem dX21_look_28 : decode cX21_look 28 = .ok (.goto (-26), 3) := dk_167 255 230 (dk_at dksX21_look_1 4 rfl rfl)
theorem dX21_look_31 : decode cX21_look 31 = .ok (.return_, 1) := dk_177 (dk_at dksX21_look_1 7 rfl rfl)
abbrev cX21_reason : ByteArray := prog_6_method_19_code
def yX21_reason : MethodName := ⟨RX21, "reason", "(II)I"⟩
def dkwX21_reason_2 : List UInt8 := [167, 0, 16, 42, 182, 0, 143, 153, 0, 7, 3, 167, 0, 5, 16, 102, 172]
abbrev dktX21_reason_2 : List UInt8 := dkwX21_reason_2 ++ []
def dkwX21_reason_1 : List UInt8 := [180, 0, 96, 182, 0, 134, 153, 0, 8, 16, 100, 167, 0, 29, 42, 28, 182, 0, 137, 153, 0, 8, 16, 101]
abbrev dktX21_reason_1 : List UInt8 := dkwX21_reason_1 ++ dktX21_reason_2
def dkwX21_reason_0 : List UInt8 := [42, 27, 182, 0, 130, 62, 29, 2, 159, 0, 7, 4, 29, 96, 172, 42, 42, 180, 0, 17, 27, 50]
abbrev dktX21_reason_0 : List UInt8 := dkwX21_reason_0 ++ dktX21_reason_1
theorem dksX21_reason_0 : cX21_reason.data.toList.drop 0 = dktX21_reason_0 := by decide +kernel
theorem dksX21_reason_1 : cX21_reason.data.toList.drop 22 = dktX21_reason_1 := dk_seg dksX21_reason_0 22 rfl rfl
theorem dksX21_reason_2 : cX21_reason.data.toList.drop 46 = dktX21_reason_2 := dk_seg dksX21_reason_1 24 rfl rfl
theorem dX21_reason_0 : decode cX21_reason 0 = .ok (.aload_n 0, 1) := dk_42 (dk_at dksX21_reason_0 0 rfl rfl)
theorem dX21_reason_1 : decode cX21_reason 1 = .ok (.iload_n 1, 1) := dk_27 (dk_at dksX21_reason_0 1 rfl rfl)
theorem dX21_reason_2 : decode cX21_reason 2 = .ok (.invokevirtual 130, 3) := dk_182 0 130 (dk_at dksX21_reason_0 2 rfl rfl)
theorem dX21_reason_5 : decode cX21_reason 5 = .ok (.istore_n 3, 1) := dk_62 (dk_at dksX21_reason_0 5 rfl rfl)
theorem dX21_reason_6 : decode cX21_reason 6 = .ok (.iload_n 3, 1) := dk_29 (dk_at dksX21_reason_0 6 rfl rfl)
theorem dX21_reason_7 : decode cX21_reason 7 = .ok (.iconst (-1), 1) := dk_2 (dk_at dksX21_reason_0 7 rfl rfl)
theorem dX21_reason_8 : decode cX21_reason 8 = .ok (.if_icmp .eq 7, 3) := dk_159 0 7 (dk_at dksX21_reason_0 8 rfl rfl)
theorem dX21_reason_11 : decode cX21_reason 11 = .ok (.iconst 1, 1) := dk_4 (dk_at dksX21_reason_0 11 rfl rfl)
theorem dX21_reason_12 : decode cX21_reason 12 = .ok (.iload_n 3, 1) := dk_29 (dk_at dksX21_reason_0 12 rfl rfl)
theorem dX21_reason_13 : decode cX21_reason 13 = .ok (.iadd, 1) := dk_96 (dk_at dksX21_reason_0 13 rfl rfl)
theorem dX21_reason_14 : decode cX21_reason 14 = .ok (.ireturn, 1) := dk_172 (dk_at dksX21_reason_0 14 rfl rfl)
theorem dX21_reason_15 : decode cX21_reason 15 = .ok (.aload_n 0, 1) := dk_42 (dk_at dksX21_reason_0 15 rfl rfl)
theorem dX21_reason_16 : decode cX21_reason 16 = .ok (.aload_n 0, 1) := dk_42 (dk_at dksX21_reason_0 16 rfl rfl)
theorem dX21_reason_17 : decode cX21_reason 17 = .ok (.getfield 17, 3) := dk_180 0 17 (dk_at dksX21_reason_0 17 rfl rfl)
theorem dX21_reason_20 : decode cX21_reason 20 = .ok (.iload_n 1, 1) := dk_27 (dk_at dksX21_reason_0 20 rfl rfl)
theorem dX21_reason_21 : decode cX21_reason 21 = .ok (.aaload, 1) := dk_50 (dk_at dksX21_reason_0 21 rfl rfl)
theorem dX21_reason_22 : decode cX21_reason 22 = .ok (.getfield 96, 3) := dk_180 0 96 (dk_at dksX21_reason_1 0 rfl rfl)
theorem dX21_reason_25 : decode cX21_reason 25 = .ok (.invokevirtual 134, 3) := dk_182 0 134 (dk_at dksX21_reason_1 3 rfl rfl)
theorem dX21_reason_28 : decode cX21_reason 28 = .ok (.ifCond .eq 8, 3) := dk_153 0 8 (dk_at dksX21_reason_1 6 rfl rfl)
theorem dX21_reason_31 : decode cX21_reason 31 = .ok (.bipush 100, 2) := dk_16 100 (dk_at dksX21_reason_1 9 rfl rfl)
theorem dX21_reason_33 : decode cX21_reason 33 = .ok (.goto 29, 3) := dk_167 0 29 (dk_at dksX21_reason_1 11 rfl rfl)
theorem dX21_reason_36 : decode cX21_reason 36 = .ok (.aload_n 0, 1) := dk_42 (dk_at dksX21_reason_1 14 rfl rfl)
theorem dX21_reason_37 : decode cX21_reason 37 = .ok (.iload_n 2, 1) := dk_28 (dk_at dksX21_reason_1 15 rfl rfl)
theorem dX21_reason_38 : decode cX21_reason 38 = .ok (.invokevirtual 137, 3) := dk_182 0 137 (dk_at dksX21_reason_1 16 rfl rfl)
theorem dX21_reason_41 : decode cX21_reason 41 = .ok (.ifCond .eq 8, 3) := dk_153 0 8 (dk_at dksX21_reason_1 19 rfl rfl)
theorem dX21_reason_44 : decode cX21_reason 44 = .ok (.bipush 101, 2) := dk_16 101 (dk_at dksX21_reason_1 22 rfl rfl)
theorem dX21_reason_46 : decode cX21_reason 46 = .ok (.goto 16, 3) := dk_167 0 16 (dk_at dksX21_reason_2 0 rfl rfl)
theorem dX21_reason_49 : decode cX21_reason 49 = .ok (.aload_n 0, 1) := dk_42 (dk_at dksX21_reason_2 3 rfl rfl)
theorem dX21_reason_50 : decode cX21_reason 50 = .ok (.invokevirtual 143, 3) := dk_182 0 143 (dk_at dksX21_reason_2 4 rfl rfl)
theorem dX21_reason_53 : decode cX21_reason 53 = .ok (.ifCond .eq 7, 3) := dk_153 0 7 (dk_at dksX21_reason_2 7 rfl rfl)
theorem dX21_reason_56 : decode cX21_reason 56 = .ok (.iconst 0, 1) := dk_3 (dk_at dksX21_reason_2 10 rfl rfl)
theorem dX21_reason_57 : decode cX21_reason 57 = .ok (.goto 5, 3) := dk_167 0 5 (dk_at dksX21_reason_2 11 rfl rfl)
theorem dX21_reason_60 : decode cX21_reason 60 = .ok (.bipush 102, 2) := dk_16 102 (dk_at dksX21_reason_2 14 rfl rfl)
theorem dX21_reason_62 : decode cX21_reason 62 = .ok (.ireturn, 1) := dk_172 (dk_at dksX21_reason_2 16 rfl rfl)
abbrev cX21_clashing : ByteArray := prog_6_method_12_code
def yX21_clashing : MethodName := ⟨RX21, "clashing", "(I)I"⟩
def dkwX21_clashing_1 : List UInt8 := [28, 172, 132, 2, 1, 167, 255, 229, 2, 172]
abbrev dktX21_clashing_1 : List UInt8 := dkwX21_clashing_1 ++ []
def dkwX21_clashing_0 : List UInt8 := [3, 61, 28, 42, 180, 0, 58, 162, 0, 25, 28, 27, 159, 0, 14, 42, 27, 28, 182, 0, 112, 153, 0, 5]
abbrev dktX21_clashing_0 : List UInt8 := dkwX21_clashing_0 ++ dktX21_clashing_1
theorem dksX21_clashing_0 : cX21_clashing.data.toList.drop 0 = dktX21_clashing_0 := by decide +kernel
theorem dksX21_clashing_1 : cX21_clashing.data.toList.drop 24 = dktX21_clashing_1 := dk_seg dksX21_clashing_0 24 rfl rfl
theorem dX21_clashing_0 : decode cX21_clashing 0 = .ok (.iconst 0, 1) := dk_3 (dk_at dksX21_clashing_0 0 rfl rfl)
theorem dX21_clashing_1 : decode cX21_clashing 1 = .ok (.istore_n 2, 1) := dk_61 (dk_at dksX21_clashing_0 1 rfl rfl)
theorem dX21_clashing_2 : decode cX21_clashing 2 = .ok (.iload_n 2, 1) := dk_28 (dk_at dksX21_clashing_0 2 rfl rfl)
theorem dX21_clashing_3 : decode cX21_clashing 3 = .ok (.aload_n 0, 1) := dk_42 (dk_at dksX21_clashing_0 3 rfl rfl)
theorem dX21_clashing_4 : decode cX21_clashing 4 = .ok (.getfield 58, 3) := dk_180 0 58 (dk_at dksX21_clashing_0 4 rfl rfl)
theorem dX21_clashing_7 : decode cX21_clashing 7 = .ok (.if_icmp .ge 25, 3) := dk_162 0 25 (dk_at dksX21_clashing_0 7 rfl rfl)
theorem dX21_clashing_10 : decode cX21_clashing 10 = .ok (.iload_n 2, 1) := dk_28 (dk_at dksX21_clashing_0 10 rfl rfl)
theorem dX21_clashing_11 : decode cX21_clashing 11 = .ok (.iload_n 1, 1) := dk_27 (dk_at dksX21_clashing_0 11 rfl rfl)
theorem dX21_clashing_12 : decode cX21_clashing 12 = .ok (.if_icmp .eq 14, 3) := dk_159 0 14 (dk_at dksX21_clashing_0 12 rfl rfl)
theorem dX21_clashing_15 : decode cX21_clashing 15 = .ok (.aload_n 0, 1) := dk_42 (dk_at dksX21_clashing_0 15 rfl rfl)
theorem dX21_clashing_16 : decode cX21_clashing 16 = .ok (.iload_n 1, 1) := dk_27 (dk_at dksX21_clashing_0 16 rfl rfl)
theorem dX21_clashing_17 : decode cX21_clashing 17 = .ok (.iload_n 2, 1) := dk_28 (dk_at dksX21_clashing_0 17 rfl rfl)
theorem dX21_clashing_18 : decode cX21_clashing 18 = .ok (.invokevirtual 112, 3) := dk_182 0 112 (dk_at dksX21_clashing_0 18 rfl rfl)
theorem dX21_clashing_21 : decode cX21_clashing 21 = .ok (.ifCond .eq 5, 3) := dk_153 0 5 (dk_at dksX21_clashing_0 21 rfl rfl)
theorem dX21_clashing_24 : decode cX21_clashing 24 = .ok (.iload_n 2, 1) := dk_28 (dk_at dksX21_clashing_1 0 rfl rfl)
theorem dX21_clashing_25 : decode cX21_clashing 25 = .ok (.ireturn, 1) := dk_172 (dk_at dksX21_clashing_1 1 rfl rfl)
theorem dX21_clashing_26 : decode cX21_clashing 26 = .ok (.iinc 2 1, 3) := dk_132 2 1 (dk_at dksX21_clashing_1 2 rfl rfl)
theorem dX21_clashing_29 : decode cX21_clashing 29 = .ok (.goto (-27), 3) := dk_167 255 229 (dk_at dksX21_clashing_1 5 rfl rfl)
theorem dX21_clashing_32 : decode cX21_clashing 32 = .ok (.iconst (-1), 1) := dk_2 (dk_at dksX21_clashing_1 8 rfl rfl)
theorem dX21_clashing_33 : decode cX21_clashing 33 = .ok (.ireturn, 1) := dk_172 (dk_at dksX21_clashing_1 9 rfl rfl)
abbrev cX21_clash : ByteArray := prog_6_method_11_code
def yX21_clash : MethodName := ⟨RX21, "clash", "(II)Z"⟩
def dkwX21_clash_3 : List UInt8 := [100, 50, 182, 0, 108, 29, 29, 104, 162, 0, 7, 4, 167, 0, 4, 3, 172]
abbrev dktX21_clash_3 : List UInt8 := dkwX21_clash_3 ++ []
def dkwX21_clash_2 : List UInt8 := [42, 180, 0, 9, 42, 180, 0, 33, 27, 46, 4, 100, 50, 42, 180, 0, 9, 42, 180, 0, 33, 28, 46, 4]
abbrev dktX21_clash_2 : List UInt8 := dkwX21_clash_2 ++ dktX21_clash_3
def dkwX21_clash_1 : List UInt8 := [180, 0, 96, 96, 53, 62, 42, 180, 0, 33, 27, 46, 158, 0, 51, 42, 180, 0, 33, 28, 46, 158, 0, 42]
abbrev dktX21_clash_1 : List UInt8 := dkwX21_clash_1 ++ dktX21_clash_2
def dkwX21_clash_0 : List UInt8 := [42, 180, 0, 21, 16, 6, 42, 180, 0, 17, 27, 50, 180, 0, 96, 104, 42, 180, 0, 17, 28, 50]
abbrev dktX21_clash_0 : List UInt8 := dkwX21_clash_0 ++ dktX21_clash_1
theorem dksX21_clash_0 : cX21_clash.data.toList.drop 0 = dktX21_clash_0 := by decide +kernel
theorem dksX21_clash_1 : cX21_clash.data.toList.drop 22 = dktX21_clash_1 := dk_seg dksX21_clash_0 22 rfl rfl
theorem dksX21_clash_2 : cX21_clash.data.toList.drop 46 = dktX21_clash_2 := dk_seg dksX21_clash_1 24 rfl rfl
theorem dksX21_clash_3 : cX21_clash.data.toList.drop 70 = dktX21_clash_3 := dk_seg dksX21_clash_2 24 rfl rfl
theorem dX21_clash_0 : decode cX21_clash 0 = .ok (.aload_n 0, 1) := dk_42 (dk_at dksX21_clash_0 0 rfl rfl)
theorem dX21_clash_1 : decode cX21_clash 1 = .ok (.getfield 21, 3) := dk_180 0 21 (dk_at dksX21_clash_0 1 rfl rfl)
theorem dX21_clash_4 : decode cX21_clash 4 = .ok (.bipush 6, 2) := dk_16 6 (dk_at dksX21_clash_0 4 rfl rfl)
theorem dX21_clash_6 : decode cX21_clash 6 = .ok (.aload_n 0, 1) := dk_42 (dk_at dksX21_clash_0 6 rfl rfl)
theorem dX21_clash_7 : decode cX21_clash 7 = .ok (.getfield 17, 3) := dk_180 0 17 (dk_at dksX21_clash_0 7 rfl rfl)
theorem dX21_clash_10 : decode cX21_clash 10 = .ok (.iload_n 1, 1) := dk_27 (dk_at dksX21_clash_0 10 rfl rfl)
theorem dX21_clash_11 : decode cX21_clash 11 = .ok (.aaload, 1) := dk_50 (dk_at dksX21_clash_0 11 rfl rfl)
theorem dX21_clash_12 : decode cX21_clash 12 = .ok (.getfield 96, 3) := dk_180 0 96 (dk_at dksX21_clash_0 12 rfl rfl)
theorem dX21_clash_15 : decode cX21_clash 15 = .ok (.imul, 1) := dk_104 (dk_at dksX21_clash_0 15 rfl rfl)
theorem dX21_clash_16 : decode cX21_clash 16 = .ok (.aload_n 0, 1) := dk_42 (dk_at dksX21_clash_0 16 rfl rfl)
theorem dX21_clash_17 : decode cX21_clash 17 = .ok (.getfield 17, 3) := dk_180 0 17 (dk_at dksX21_clash_0 17 rfl rfl)
theorem dX21_clash_20 : decode cX21_clash 20 = .ok (.iload_n 2, 1) := dk_28 (dk_at dksX21_clash_0 20 rfl rfl)
theorem dX21_clash_21 : decode cX21_clash 21 = .ok (.aaload, 1) := dk_50 (dk_at dksX21_clash_0 21 rfl rfl)
theorem dX21_clash_22 : decode cX21_clash 22 = .ok (.getfield 96, 3) := dk_180 0 96 (dk_at dksX21_clash_1 0 rfl rfl)
theorem dX21_clash_25 : decode cX21_clash 25 = .ok (.iadd, 1) := dk_96 (dk_at dksX21_clash_1 3 rfl rfl)
theorem dX21_clash_26 : decode cX21_clash 26 = .ok (.saload, 1) := dk_53 (dk_at dksX21_clash_1 4 rfl rfl)
theorem dX21_clash_27 : decode cX21_clash 27 = .ok (.istore_n 3, 1) := dk_62 (dk_at dksX21_clash_1 5 rfl rfl)
theorem dX21_clash_28 : decode cX21_clash 28 = .ok (.aload_n 0, 1) := dk_42 (dk_at dksX21_clash_1 6 rfl rfl)
theorem dX21_clash_29 : decode cX21_clash 29 = .ok (.getfield 33, 3) := dk_180 0 33 (dk_at dksX21_clash_1 7 rfl rfl)
theorem dX21_clash_32 : decode cX21_clash 32 = .ok (.iload_n 1, 1) := dk_27 (dk_at dksX21_clash_1 10 rfl rfl)
theorem dX21_clash_33 : decode cX21_clash 33 = .ok (.iaload, 1) := dk_46 (dk_at dksX21_clash_1 11 rfl rfl)
theorem dX21_clash_34 : decode cX21_clash 34 = .ok (.ifCond .le 51, 3) := dk_158 0 51 (dk_at dksX21_clash_1 12 rfl rfl)
theorem dX21_clash_37 : decode cX21_clash 37 = .ok (.aload_n 0, 1) := dk_42 (dk_at dksX21_clash_1 15 rfl rfl)
theorem dX21_clash_38 : decode cX21_clash 38 = .ok (.getfield 33, 3) := dk_180 0 33 (dk_at dksX21_clash_1 16 rfl rfl)
theorem dX21_clash_41 : decode cX21_clash 41 = .ok (.iload_n 2, 1) := dk_28 (dk_at dksX21_clash_1 19 rfl rfl)
theorem dX21_clash_42 : decode cX21_clash 42 = .ok (.iaload, 1) := dk_46 (dk_at dksX21_clash_1 20 rfl rfl)
theorem dX21_clash_43 : decode cX21_clash 43 = .ok (.ifCond .le 42, 3) := dk_158 0 42 (dk_at dksX21_clash_1 21 rfl rfl)
theorem dX21_clash_46 : decode cX21_clash 46 = .ok (.aload_n 0, 1) := dk_42 (dk_at dksX21_clash_2 0 rfl rfl)
theorem dX21_clash_47 : decode cX21_clash 47 = .ok (.getfield 9, 3) := dk_180 0 9 (dk_at dksX21_clash_2 1 rfl rfl)
theorem dX21_clash_50 : decode cX21_clash 50 = .ok (.aload_n 0, 1) := dk_42 (dk_at dksX21_clash_2 4 rfl rfl)
theorem dX21_clash_51 : decode cX21_clash 51 = .ok (.getfield 33, 3) := dk_180 0 33 (dk_at dksX21_clash_2 5 rfl rfl)
theorem dX21_clash_54 : decode cX21_clash 54 = .ok (.iload_n 1, 1) := dk_27 (dk_at dksX21_clash_2 8 rfl rfl)
theorem dX21_clash_55 : decode cX21_clash 55 = .ok (.iaload, 1) := dk_46 (dk_at dksX21_clash_2 9 rfl rfl)
theorem dX21_clash_56 : decode cX21_clash 56 = .ok (.iconst 1, 1) := dk_4 (dk_at dksX21_clash_2 10 rfl rfl)
theorem dX21_clash_57 : decode cX21_clash 57 = .ok (.isub, 1) := dk_100 (dk_at dksX21_clash_2 11 rfl rfl)
theorem dX21_clash_58 : decode cX21_clash 58 = .ok (.aaload, 1) := dk_50 (dk_at dksX21_clash_2 12 rfl rfl)
theorem dX21_clash_59 : decode cX21_clash 59 = .ok (.aload_n 0, 1) := dk_42 (dk_at dksX21_clash_2 13 rfl rfl)
theorem dX21_clash_60 : decode cX21_clash 60 = .ok (.getfield 9, 3) := dk_180 0 9 (dk_at dksX21_clash_2 14 rfl rfl)
theorem dX21_clash_63 : decode cX21_clash 63 = .ok (.aload_n 0, 1) := dk_42 (dk_at dksX21_clash_2 17 rfl rfl)
theorem dX21_clash_64 : decode cX21_clash 64 = .ok (.getfield 33, 3) := dk_180 0 33 (dk_at dksX21_clash_2 18 rfl rfl)
theorem dX21_clash_67 : decode cX21_clash 67 = .ok (.iload_n 2, 1) := dk_28 (dk_at dksX21_clash_2 21 rfl rfl)
theorem dX21_clash_68 : decode cX21_clash 68 = .ok (.iaload, 1) := dk_46 (dk_at dksX21_clash_2 22 rfl rfl)
theorem dX21_clash_69 : decode cX21_clash 69 = .ok (.iconst 1, 1) := dk_4 (dk_at dksX21_clash_2 23 rfl rfl)
theorem dX21_clash_70 : decode cX21_clash 70 = .ok (.isub, 1) := dk_100 (dk_at dksX21_clash_3 0 rfl rfl)
theorem dX21_clash_71 : decode cX21_clash 71 = .ok (.aaload, 1) := dk_50 (dk_at dksX21_clash_3 1 rfl rfl)
theorem dX21_clash_72 : decode cX21_clash 72 = .ok (.invokevirtual 108, 3) := dk_182 0 108 (dk_at dksX21_clash_3 2 rfl rfl)
theorem dX21_clash_75 : decode cX21_clash 75 = .ok (.iload_n 3, 1) := dk_29 (dk_at dksX21_clash_3 5 rfl rfl)
theorem dX21_clash_76 : decode cX21_clash 76 = .ok (.iload_n 3, 1) := dk_29 (dk_at dksX21_clash_3 6 rfl rfl)
theorem dX21_clash_77 : decode cX21_clash 77 = .ok (.imul, 1) := dk_104 (dk_at dksX21_clash_3 7 rfl rfl)
theorem dX21_clash_78 : decode cX21_clash 78 = .ok (.if_icmp .ge 7, 3) := dk_162 0 7 (dk_at dksX21_clash_3 8 rfl rfl)
theorem dX21_clash_81 : decode cX21_clash 81 = .ok (.iconst 1, 1) := dk_4 (dk_at dksX21_clash_3 11 rfl rfl)
theorem dX21_clash_82 : decode cX21_clash 82 = .ok (.goto 4, 3) := dk_167 0 4 (dk_at dksX21_clash_3 12 rfl rfl)
theorem dX21_clash_85 : decode cX21_clash 85 = .ok (.iconst 0, 1) := dk_3 (dk_at dksX21_clash_3 15 rfl rfl)
theorem dX21_clash_86 : decode cX21_clash 86 = .ok (.ireturn, 1) := dk_172 (dk_at dksX21_clash_3 16 rfl rfl)
abbrev cX21_isTooMuch : ByteArray := prog_6_method_13_code
def yX21_isTooMuch : MethodName := ⟨RX21, "isTooMuch", "(I)Z"⟩
def dkwX21_isTooMuch_3 : List UInt8 := [158, 0, 7, 4, 167, 0, 4, 3, 172]
abbrev dktX21_isTooMuch_3 : List UInt8 := dkwX21_isTooMuch_3 ++ []
def dkwX21_isTooMuch_2 : List UInt8 := [180, 0, 99, 167, 0, 4, 9, 97, 65, 132, 4, 1, 167, 255, 203, 32, 42, 180, 0, 25, 27, 46, 133, 148]
abbrev dktX21_isTooMuch_2 : List UInt8 := dkwX21_isTooMuch_2 ++ dktX21_isTooMuch_3
def dkwX21_isTooMuch_1 : List UInt8 := [158, 0, 30, 42, 180, 0, 17, 21, 4, 50, 180, 0, 96, 27, 160, 0, 16, 42, 180, 0, 17, 21, 4, 50]
abbrev dktX21_isTooMuch_1 : List UInt8 := dkwX21_isTooMuch_1 ++ dktX21_isTooMuch_2
def dkwX21_isTooMuch_0 : List UInt8 := [9, 65, 3, 54, 4, 21, 4, 42, 180, 0, 58, 162, 0, 50, 32, 42, 180, 0, 33, 21, 4, 46]
abbrev dktX21_isTooMuch_0 : List UInt8 := dkwX21_isTooMuch_0 ++ dktX21_isTooMuch_1
theorem dksX21_isTooMuch_0 : cX21_isTooMuch.data.toList.drop 0 = dktX21_isTooMuch_0 := by decide +kernel
theorem dksX21_isTooMuch_1 : cX21_isTooMuch.data.toList.drop 22 = dktX21_isTooMuch_1 := dk_seg dksX21_isTooMuch_0 22 rfl rfl
theorem dksX21_isTooMuch_2 : cX21_isTooMuch.data.toList.drop 46 = dktX21_isTooMuch_2 := dk_seg dksX21_isTooMuch_1 24 rfl rfl
theorem dksX21_isTooMuch_3 : cX21_isTooMuch.data.toList.drop 70 = dktX21_isTooMuch_3 := dk_seg dksX21_isTooMuch_2 24 rfl rfl
theorem dX21_isTooMuch_0 : decode cX21_isTooMuch 0 = .ok (.lconst 0, 1) := dk_9 (dk_at dksX21_isTooMuch_0 0 rfl rfl)
theorem dX21_isTooMuch_1 : decode cX21_isTooMuch 1 = .ok (.lstore_n 2, 1) := dk_65 (dk_at dksX21_isTooMuch_0 1 rfl rfl)
theorem dX21_isTooMuch_2 : decode cX21_isTooMuch 2 = .ok (.iconst 0, 1) := dk_3 (dk_at dksX21_isTooMuch_0 2 rfl rfl)
theorem dX21_isTooMuch_3 : decode cX21_isTooMuch 3 = .ok (.istore 4, 2) := dk_54 4 (dk_at dksX21_isTooMuch_0 3 rfl rfl)
theorem dX21_isTooMuch_5 : decode cX21_isTooMuch 5 = .ok (.iload 4, 2) := dk_21 4 (dk_at dksX21_isTooMuch_0 5 rfl rfl)
theorem dX21_isTooMuch_7 : decode cX21_isTooMuch 7 = .ok (.aload_n 0, 1) := dk_42 (dk_at dksX21_isTooMuch_0 7 rfl rfl)
theorem dX21_isTooMuch_8 : decode cX21_isTooMuch 8 = .ok (.getfield 58, 3) := dk_180 0 58 (dk_at dksX21_isTooMuch_0 8 rfl rfl)
theorem dX21_isTooMuch_11 : decode cX21_isTooMuch 11 = .ok (.if_icmp .ge 50, 3) := dk_162 0 50 (dk_at dksX21_isTooMuch_0 11 rfl rfl)
theorem dX21_isTooMuch_14 : decode cX21_isTooMuch 14 = .ok (.lload_n 2, 1) := dk_32 (dk_at dksX21_isTooMuch_0 14 rfl rfl)
theorem dX21_isTooMuch_15 : decode cX21_isTooMuch 15 = .ok (.aload_n 0, 1) := dk_42 (dk_at dksX21_isTooMuch_0 15 rfl rfl)
theorem dX21_isTooMuch_16 : decode cX21_isTooMuch 16 = .ok (.getfield 33, 3) := dk_180 0 33 (dk_at dksX21_isTooMuch_0 16 rfl rfl)
theorem dX21_isTooMuch_19 : decode cX21_isTooMuch 19 = .ok (.iload 4, 2) := dk_21 4 (dk_at dksX21_isTooMuch_0 19 rfl rfl)
theorem dX21_isTooMuch_21 : decode cX21_isTooMuch 21 = .ok (.iaload, 1) := dk_46 (dk_at dksX21_isTooMuch_0 21 rfl rfl)
theorem dX21_isTooMuch_22 : decode cX21_isTooMuch 22 = .ok (.ifCond .le 30, 3) := dk_158 0 30 (dk_at dksX21_isTooMuch_1 0 rfl rfl)
theorem dX21_isTooMuch_25 : decode cX21_isTooMuch 25 = .ok (.aload_n 0, 1) := dk_42 (dk_at dksX21_isTooMuch_1 3 rfl rfl)
theorem dX21_isTooMuch_26 : decode cX21_isTooMuch 26 = .ok (.getfield 17, 3) := dk_180 0 17 (dk_at dksX21_isTooMuch_1 4 rfl rfl)
theorem dX21_isTooMuch_29 : decode cX21_isTooMuch 29 = .ok (.iload 4, 2) := dk_21 4 (dk_at dksX21_isTooMuch_1 7 rfl rfl)
theorem dX21_isTooMuch_31 : decode cX21_isTooMuch 31 = .ok (.aaload, 1) := dk_50 (dk_at dksX21_isTooMuch_1 9 rfl rfl)
theorem dX21_isTooMuch_32 : decode cX21_isTooMuch 32 = .ok (.getfield 96, 3) := dk_180 0 96 (dk_at dksX21_isTooMuch_1 10 rfl rfl)
theorem dX21_isTooMuch_35 : decode cX21_isTooMuch 35 = .ok (.iload_n 1, 1) := dk_27 (dk_at dksX21_isTooMuch_1 13 rfl rfl)
theorem dX21_isTooMuch_36 : decode cX21_isTooMuch 36 = .ok (.if_icmp .ne 16, 3) := dk_160 0 16 (dk_at dksX21_isTooMuch_1 14 rfl rfl)
theorem dX21_isTooMuch_39 : decode cX21_isTooMuch 39 = .ok (.aload_n 0, 1) := dk_42 (dk_at dksX21_isTooMuch_1 17 rfl rfl)
theorem dX21_isTooMuch_40 : decode cX21_isTooMuch 40 = .ok (.getfield 17, 3) := dk_180 0 17 (dk_at dksX21_isTooMuch_1 18 rfl rfl)
theorem dX21_isTooMuch_43 : decode cX21_isTooMuch 43 = .ok (.iload 4, 2) := dk_21 4 (dk_at dksX21_isTooMuch_1 21 rfl rfl)
theorem dX21_isTooMuch_45 : decode cX21_isTooMuch 45 = .ok (.aaload, 1) := dk_50 (dk_at dksX21_isTooMuch_1 23 rfl rfl)
theorem dX21_isTooMuch_46 : decode cX21_isTooMuch 46 = .ok (.getfield 99, 3) := dk_180 0 99 (dk_at dksX21_isTooMuch_2 0 rfl rfl)
theorem dX21_isTooMuch_49 : decode cX21_isTooMuch 49 = .ok (.goto 4, 3) := dk_167 0 4 (dk_at dksX21_isTooMuch_2 3 rfl rfl)
theorem dX21_isTooMuch_52 : decode cX21_isTooMuch 52 = .ok (.lconst 0, 1) := dk_9 (dk_at dksX21_isTooMuch_2 6 rfl rfl)
theorem dX21_isTooMuch_53 : decode cX21_isTooMuch 53 = .ok (.ladd, 1) := dk_97 (dk_at dksX21_isTooMuch_2 7 rfl rfl)
theorem dX21_isTooMuch_54 : decode cX21_isTooMuch 54 = .ok (.lstore_n 2, 1) := dk_65 (dk_at dksX21_isTooMuch_2 8 rfl rfl)
theorem dX21_isTooMuch_55 : decode cX21_isTooMuch 55 = .ok (.iinc 4 1, 3) := dk_132 4 1 (dk_at dksX21_isTooMuch_2 9 rfl rfl)
theorem dX21_isTooMuch_58 : decode cX21_isTooMuch 58 = .ok (.goto (-53), 3) := dk_167 255 203 (dk_at dksX21_isTooMuch_2 12 rfl rfl)
theorem dX21_isTooMuch_61 : decode cX21_isTooMuch 61 = .ok (.lload_n 2, 1) := dk_32 (dk_at dksX21_isTooMuch_2 15 rfl rfl)
theorem dX21_isTooMuch_62 : decode cX21_isTooMuch 62 = .ok (.aload_n 0, 1) := dk_42 (dk_at dksX21_isTooMuch_2 16 rfl rfl)
theorem dX21_isTooMuch_63 : decode cX21_isTooMuch 63 = .ok (.getfield 25, 3) := dk_180 0 25 (dk_at dksX21_isTooMuch_2 17 rfl rfl)
theorem dX21_isTooMuch_66 : decode cX21_isTooMuch 66 = .ok (.iload_n 1, 1) := dk_27 (dk_at dksX21_isTooMuch_2 20 rfl rfl)
theorem dX21_isTooMuch_67 : decode cX21_isTooMuch 67 = .ok (.iaload, 1) := dk_46 (dk_at dksX21_isTooMuch_2 21 rfl rfl)
theorem dX21_isTooMuch_68 : decode cX21_isTooMuch 68 = .ok (.i2l, 1) := dk_133 (dk_at dksX21_isTooMuch_2 22 rfl rfl)
theorem dX21_isTooMuch_69 : decode cX21_isTooMuch 69 = .ok (.lcmp, 1) := dk_148 (dk_at dksX21_isTooMuch_2 23 rfl rfl)
theorem dX21_isTooMuch_70 : decode cX21_isTooMuch 70 = .ok (.ifCond .le 7, 3) := dk_158 0 7 (dk_at dksX21_isTooMuch_3 0 rfl rfl)
theorem dX21_isTooMuch_73 : decode cX21_isTooMuch 73 = .ok (.iconst 1, 1) := dk_4 (dk_at dksX21_isTooMuch_3 3 rfl rfl)
theorem dX21_isTooMuch_74 : decode cX21_isTooMuch 74 = .ok (.goto 4, 3) := dk_167 0 4 (dk_at dksX21_isTooMuch_3 4 rfl rfl)
theorem dX21_isTooMuch_77 : decode cX21_isTooMuch 77 = .ok (.iconst 0, 1) := dk_3 (dk_at dksX21_isTooMuch_3 7 rfl rfl)
theorem dX21_isTooMuch_78 : decode cX21_isTooMuch 78 = .ok (.ireturn, 1) := dk_172 (dk_at dksX21_isTooMuch_3 8 rfl rfl)
abbrev cX21_isTooSmall : ByteArray := prog_6_method_15_code
def yX21_isTooSmall : MethodName := ⟨RX21, "isTooSmall", "(I)Z"⟩
def dkwX21_isTooSmall_1 : List UInt8 := [172]
abbrev dktX21_isTooSmall_1 : List UInt8 := dkwX21_isTooSmall_1 ++ []
def dkwX21_isTooSmall_0 : List UInt8 := [42, 27, 182, 0, 126, 42, 180, 0, 9, 27, 50, 180, 0, 89, 133, 148, 158, 0, 7, 4, 167, 0, 4, 3]
abbrev dktX21_isTooSmall_0 : List UInt8 := dkwX21_isTooSmall_0 ++ dktX21_isTooSmall_1
theorem dksX21_isTooSmall_0 : cX21_isTooSmall.data.toList.drop 0 = dktX21_isTooSmall_0 := by decide +kernel
theorem dksX21_isTooSmall_1 : cX21_isTooSmall.data.toList.drop 24 = dktX21_isTooSmall_1 := dk_seg dksX21_isTooSmall_0 24 rfl rfl
theorem dX21_isTooSmall_0 : decode cX21_isTooSmall 0 = .ok (.aload_n 0, 1) := dk_42 (dk_at dksX21_isTooSmall_0 0 rfl rfl)
theorem dX21_isTooSmall_1 : decode cX21_isTooSmall 1 = .ok (.iload_n 1, 1) := dk_27 (dk_at dksX21_isTooSmall_0 1 rfl rfl)
theorem dX21_isTooSmall_2 : decode cX21_isTooSmall 2 = .ok (.invokevirtual 126, 3) := dk_182 0 126 (dk_at dksX21_isTooSmall_0 2 rfl rfl)
theorem dX21_isTooSmall_5 : decode cX21_isTooSmall 5 = .ok (.aload_n 0, 1) := dk_42 (dk_at dksX21_isTooSmall_0 5 rfl rfl)
theorem dX21_isTooSmall_6 : decode cX21_isTooSmall 6 = .ok (.getfield 9, 3) := dk_180 0 9 (dk_at dksX21_isTooSmall_0 6 rfl rfl)
theorem dX21_isTooSmall_9 : decode cX21_isTooSmall 9 = .ok (.iload_n 1, 1) := dk_27 (dk_at dksX21_isTooSmall_0 9 rfl rfl)
theorem dX21_isTooSmall_10 : decode cX21_isTooSmall 10 = .ok (.aaload, 1) := dk_50 (dk_at dksX21_isTooSmall_0 10 rfl rfl)
theorem dX21_isTooSmall_11 : decode cX21_isTooSmall 11 = .ok (.getfield 89, 3) := dk_180 0 89 (dk_at dksX21_isTooSmall_0 11 rfl rfl)
theorem dX21_isTooSmall_14 : decode cX21_isTooSmall 14 = .ok (.i2l, 1) := dk_133 (dk_at dksX21_isTooSmall_0 14 rfl rfl)
theorem dX21_isTooSmall_15 : decode cX21_isTooSmall 15 = .ok (.lcmp, 1) := dk_148 (dk_at dksX21_isTooSmall_0 15 rfl rfl)
theorem dX21_isTooSmall_16 : decode cX21_isTooSmall 16 = .ok (.ifCond .le 7, 3) := dk_158 0 7 (dk_at dksX21_isTooSmall_0 16 rfl rfl)
theorem dX21_isTooSmall_19 : decode cX21_isTooSmall 19 = .ok (.iconst 1, 1) := dk_4 (dk_at dksX21_isTooSmall_0 19 rfl rfl)
theorem dX21_isTooSmall_20 : decode cX21_isTooSmall 20 = .ok (.goto 4, 3) := dk_167 0 4 (dk_at dksX21_isTooSmall_0 20 rfl rfl)
theorem dX21_isTooSmall_23 : decode cX21_isTooSmall 23 = .ok (.iconst 0, 1) := dk_3 (dk_at dksX21_isTooSmall_0 23 rfl rfl)
theorem dX21_isTooSmall_24 : decode cX21_isTooSmall 24 = .ok (.ireturn, 1) := dk_172 (dk_at dksX21_isTooSmall_1 0 rfl rfl)
abbrev cX21_needed : ByteArray := prog_6_method_14_code
def yX21_needed : MethodName := ⟨RX21, "needed", "(I)J"⟩
def dkwX21_needed_3 : List UInt8 := [20, 0, 122, 97, 20, 0, 124, 109, 184, 0, 116, 173]
abbrev dktX21_needed_3 : List UInt8 := dkwX21_needed_3 ++ []
def dkwX21_needed_2 : List UInt8 := [180, 0, 17, 21, 6, 50, 180, 0, 103, 184, 0, 116, 55, 4, 132, 6, 1, 167, 255, 201, 22, 4, 32]
abbrev dktX21_needed_2 : List UInt8 := dkwX21_needed_2 ++ dktX21_needed_3
def dkwX21_needed_1 : List UInt8 := [27, 4, 96, 160, 0, 33, 32, 42, 180, 0, 17, 21, 6, 50, 180, 0, 103, 97, 65, 22, 4, 42]
abbrev dktX21_needed_1 : List UInt8 := dkwX21_needed_1 ++ dktX21_needed_2
def dkwX21_needed_0 : List UInt8 := [9, 65, 9, 55, 4, 3, 54, 6, 21, 6, 42, 180, 0, 58, 162, 0, 52, 42, 180, 0, 33, 21, 6, 46]
abbrev dktX21_needed_0 : List UInt8 := dkwX21_needed_0 ++ dktX21_needed_1
theorem dksX21_needed_0 : cX21_needed.data.toList.drop 0 = dktX21_needed_0 := by decide +kernel
theorem dksX21_needed_1 : cX21_needed.data.toList.drop 24 = dktX21_needed_1 := dk_seg dksX21_needed_0 24 rfl rfl
theorem dksX21_needed_2 : cX21_needed.data.toList.drop 46 = dktX21_needed_2 := dk_seg dksX21_needed_1 22 rfl rfl
theorem dksX21_needed_3 : cX21_needed.data.toList.drop 69 = dktX21_needed_3 := dk_seg dksX21_needed_2 23 rfl rfl
theorem dX21_needed_0 : decode cX21_needed 0 = .ok (.lconst 0, 1) := dk_9 (dk_at dksX21_needed_0 0 rfl rfl)
theorem dX21_needed_1 : decode cX21_needed 1 = .ok (.lstore_n 2, 1) := dk_65 (dk_at dksX21_needed_0 1 rfl rfl)
theorem dX21_needed_2 : decode cX21_needed 2 = .ok (.lconst 0, 1) := dk_9 (dk_at dksX21_needed_0 2 rfl rfl)
theorem dX21_needed_3 : decode cX21_needed 3 = .ok (.lstore 4, 2) := dk_55 4 (dk_at dksX21_needed_0 3 rfl rfl)
theorem dX21_needed_5 : decode cX21_needed 5 = .ok (.iconst 0, 1) := dk_3 (dk_at dksX21_needed_0 5 rfl rfl)
theorem dX21_needed_6 : decode cX21_needed 6 = .ok (.istore 6, 2) := dk_54 6 (dk_at dksX21_needed_0 6 rfl rfl)
theorem dX21_needed_8 : decode cX21_needed 8 = .ok (.iload 6, 2) := dk_21 6 (dk_at dksX21_needed_0 8 rfl rfl)
theorem dX21_needed_10 : decode cX21_needed 10 = .ok (.aload_n 0, 1) := dk_42 (dk_at dksX21_needed_0 10 rfl rfl)
theorem dX21_needed_11 : decode cX21_needed 11 = .ok (.getfield 58, 3) := dk_180 0 58 (dk_at dksX21_needed_0 11 rfl rfl)
theorem dX21_needed_14 : decode cX21_needed 14 = .ok (.if_icmp .ge 52, 3) := dk_162 0 52 (dk_at dksX21_needed_0 14 rfl rfl)
theorem dX21_needed_17 : decode cX21_needed 17 = .ok (.aload_n 0, 1) := dk_42 (dk_at dksX21_needed_0 17 rfl rfl)
theorem dX21_needed_18 : decode cX21_needed 18 = .ok (.getfield 33, 3) := dk_180 0 33 (dk_at dksX21_needed_0 18 rfl rfl)
theorem dX21_needed_21 : decode cX21_needed 21 = .ok (.iload 6, 2) := dk_21 6 (dk_at dksX21_needed_0 21 rfl rfl)
theorem dX21_needed_23 : decode cX21_needed 23 = .ok (.iaload, 1) := dk_46 (dk_at dksX21_needed_0 23 rfl rfl)
theorem dX21_needed_24 : decode cX21_needed 24 = .ok (.iload_n 1, 1) := dk_27 (dk_at dksX21_needed_1 0 rfl rfl)
theorem dX21_needed_25 : decode cX21_needed 25 = .ok (.iconst 1, 1) := dk_4 (dk_at dksX21_needed_1 1 rfl rfl)
theorem dX21_needed_26 : decode cX21_needed 26 = .ok (.iadd, 1) := dk_96 (dk_at dksX21_needed_1 2 rfl rfl)
theorem dX21_needed_27 : decode cX21_needed 27 = .ok (.if_icmp .ne 33, 3) := dk_160 0 33 (dk_at dksX21_needed_1 3 rfl rfl)
theorem dX21_needed_30 : decode cX21_needed 30 = .ok (.lload_n 2, 1) := dk_32 (dk_at dksX21_needed_1 6 rfl rfl)
theorem dX21_needed_31 : decode cX21_needed 31 = .ok (.aload_n 0, 1) := dk_42 (dk_at dksX21_needed_1 7 rfl rfl)
theorem dX21_needed_32 : decode cX21_needed 32 = .ok (.getfield 17, 3) := dk_180 0 17 (dk_at dksX21_needed_1 8 rfl rfl)
theorem dX21_needed_35 : decode cX21_needed 35 = .ok (.iload 6, 2) := dk_21 6 (dk_at dksX21_needed_1 11 rfl rfl)
theorem dX21_needed_37 : decode cX21_needed 37 = .ok (.aaload, 1) := dk_50 (dk_at dksX21_needed_1 13 rfl rfl)
theorem dX21_needed_38 : decode cX21_needed 38 = .ok (.getfield 103, 3) := dk_180 0 103 (dk_at dksX21_needed_1 14 rfl rfl)
theorem dX21_needed_41 : decode cX21_needed 41 = .ok (.ladd, 1) := dk_97 (dk_at dksX21_needed_1 17 rfl rfl)
theorem dX21_needed_42 : decode cX21_needed 42 = .ok (.lstore_n 2, 1) := dk_65 (dk_at dksX21_needed_1 18 rfl rfl)
theorem dX21_needed_43 : decode cX21_needed 43 = .ok (.lload 4, 2) := dk_22 4 (dk_at dksX21_needed_1 19 rfl rfl)
theorem dX21_needed_45 : decode cX21_needed 45 = .ok (.aload_n 0, 1) := dk_42 (dk_at dksX21_needed_1 21 rfl rfl)
theorem dX21_needed_46 : decode cX21_needed 46 = .ok (.getfield 17, 3) := dk_180 0 17 (dk_at dksX21_needed_2 0 rfl rfl)
theorem dX21_needed_49 : decode cX21_needed 49 = .ok (.iload 6, 2) := dk_21 6 (dk_at dksX21_needed_2 3 rfl rfl)
theorem dX21_needed_51 : decode cX21_needed 51 = .ok (.aaload, 1) := dk_50 (dk_at dksX21_needed_2 5 rfl rfl)
theorem dX21_needed_52 : decode cX21_needed 52 = .ok (.getfield 103, 3) := dk_180 0 103 (dk_at dksX21_needed_2 6 rfl rfl)
theorem dX21_needed_55 : decode cX21_needed 55 = .ok (.invokestatic 116, 3) := dk_184 0 116 (dk_at dksX21_needed_2 9 rfl rfl)
theorem dX21_needed_58 : decode cX21_needed 58 = .ok (.lstore 4, 2) := dk_55 4 (dk_at dksX21_needed_2 12 rfl rfl)
theorem dX21_needed_60 : decode cX21_needed 60 = .ok (.iinc 6 1, 3) := dk_132 6 1 (dk_at dksX21_needed_2 14 rfl rfl)
theorem dX21_needed_63 : decode cX21_needed 63 = .ok (.goto (-55), 3) := dk_167 255 201 (dk_at dksX21_needed_2 17 rfl rfl)
theorem dX21_needed_66 : decode cX21_needed 66 = .ok (.lload 4, 2) := dk_22 4 (dk_at dksX21_needed_2 20 rfl rfl)
theorem dX21_needed_68 : decode cX21_needed 68 = .ok (.lload_n 2, 1) := dk_32 (dk_at dksX21_needed_2 22 rfl rfl)
theorem dX21_needed_69 : decode cX21_needed 69 = .ok (.ldc2_w 122, 3) := dk_20 0 122 (dk_at dksX21_needed_3 0 rfl rfl)
theorem dX21_needed_72 : decode cX21_needed 72 = .ok (.ladd, 1) := dk_97 (dk_at dksX21_needed_3 3 rfl rfl)
theorem dX21_needed_73 : decode cX21_needed 73 = .ok (.ldc2_w 124, 3) := dk_20 0 124 (dk_at dksX21_needed_3 4 rfl rfl)
theorem dX21_needed_76 : decode cX21_needed 76 = .ok (.ldiv, 1) := dk_109 (dk_at dksX21_needed_3 7 rfl rfl)
theorem dX21_needed_77 : decode cX21_needed 77 = .ok (.invokestatic 116, 3) := dk_184 0 116 (dk_at dksX21_needed_3 8 rfl rfl)
theorem dX21_needed_80 : decode cX21_needed 80 = .ok (.lreturn, 1) := dk_173 (dk_at dksX21_needed_3 11 rfl rfl)
abbrev cX21_isGood : ByteArray := prog_6_method_16_code
def yX21_isGood : MethodName := ⟨RX21, "isGood", "()Z"⟩
def dkwX21_isGood_4 : List UInt8 := [182, 0, 137, 154, 0, 7, 4, 167, 0, 4, 3, 60, 132, 2, 1, 167, 255, 227, 27, 172]
abbrev dktX21_isGood_4 : List UInt8 := dkwX21_isGood_4 ++ []
def dkwX21_isGood_3 : List UInt8 := [3, 60, 132, 2, 1, 167, 255, 229, 3, 61, 28, 42, 180, 0, 55, 162, 0, 27, 27, 153, 0, 23, 42, 28]
abbrev dktX21_isGood_3 : List UInt8 := dkwX21_isGood_3 ++ dktX21_isGood_4
def dkwX21_isGood_2 : List UInt8 := [3, 61, 28, 16, 6, 162, 0, 27, 27, 153, 0, 23, 42, 28, 182, 0, 134, 154, 0, 7, 4, 167, 0, 4]
abbrev dktX21_isGood_2 : List UInt8 := dkwX21_isGood_2 ++ dktX21_isGood_3
def dkwX21_isGood_1 : List UInt8 := [153, 0, 12, 42, 28, 182, 0, 130, 2, 160, 0, 7, 4, 167, 0, 4, 3, 60, 132, 2, 1, 167, 255, 217]
abbrev dktX21_isGood_1 : List UInt8 := dkwX21_isGood_1 ++ dktX21_isGood_2
def dkwX21_isGood_0 : List UInt8 := [4, 60, 3, 61, 28, 42, 180, 0, 58, 162, 0, 37, 27, 153, 0, 33, 42, 180, 0, 33, 28, 46]
abbrev dktX21_isGood_0 : List UInt8 := dkwX21_isGood_0 ++ dktX21_isGood_1
theorem dksX21_isGood_0 : cX21_isGood.data.toList.drop 0 = dktX21_isGood_0 := by decide +kernel
theorem dksX21_isGood_1 : cX21_isGood.data.toList.drop 22 = dktX21_isGood_1 := dk_seg dksX21_isGood_0 22 rfl rfl
theorem dksX21_isGood_2 : cX21_isGood.data.toList.drop 46 = dktX21_isGood_2 := dk_seg dksX21_isGood_1 24 rfl rfl
theorem dksX21_isGood_3 : cX21_isGood.data.toList.drop 70 = dktX21_isGood_3 := dk_seg dksX21_isGood_2 24 rfl rfl
theorem dksX21_isGood_4 : cX21_isGood.data.toList.drop 94 = dktX21_isGood_4 := dk_seg dksX21_isGood_3 24 rfl rfl
theorem dX21_isGood_0 : decode cX21_isGood 0 = .ok (.iconst 1, 1) := dk_4 (dk_at dksX21_isGood_0 0 rfl rfl)
theorem dX21_isGood_1 : decode cX21_isGood 1 = .ok (.istore_n 1, 1) := dk_60 (dk_at dksX21_isGood_0 1 rfl rfl)
theorem dX21_isGood_2 : decode cX21_isGood 2 = .ok (.iconst 0, 1) := dk_3 (dk_at dksX21_isGood_0 2 rfl rfl)
theorem dX21_isGood_3 : decode cX21_isGood 3 = .ok (.istore_n 2, 1) := dk_61 (dk_at dksX21_isGood_0 3 rfl rfl)
theorem dX21_isGood_4 : decode cX21_isGood 4 = .ok (.iload_n 2, 1) := dk_28 (dk_at dksX21_isGood_0 4 rfl rfl)
theorem dX21_isGood_5 : decode cX21_isGood 5 = .ok (.aload_n 0, 1) := dk_42 (dk_at dksX21_isGood_0 5 rfl rfl)
theorem dX21_isGood_6 : decode cX21_isGood 6 = .ok (.getfield 58, 3) := dk_180 0 58 (dk_at dksX21_isGood_0 6 rfl rfl)
theorem dX21_isGood_9 : decode cX21_isGood 9 = .ok (.if_icmp .ge 37, 3) := dk_162 0 37 (dk_at dksX21_isGood_0 9 rfl rfl)
theorem dX21_isGood_12 : decode cX21_isGood 12 = .ok (.iload_n 1, 1) := dk_27 (dk_at dksX21_isGood_0 12 rfl rfl)
theorem dX21_isGood_13 : decode cX21_isGood 13 = .ok (.ifCond .eq 33, 3) := dk_153 0 33 (dk_at dksX21_isGood_0 13 rfl rfl)
theorem dX21_isGood_16 : decode cX21_isGood 16 = .ok (.aload_n 0, 1) := dk_42 (dk_at dksX21_isGood_0 16 rfl rfl)
theorem dX21_isGood_17 : decode cX21_isGood 17 = .ok (.getfield 33, 3) := dk_180 0 33 (dk_at dksX21_isGood_0 17 rfl rfl)
theorem dX21_isGood_20 : decode cX21_isGood 20 = .ok (.iload_n 2, 1) := dk_28 (dk_at dksX21_isGood_0 20 rfl rfl)
theorem dX21_isGood_21 : decode cX21_isGood 21 = .ok (.iaload, 1) := dk_46 (dk_at dksX21_isGood_0 21 rfl rfl)
theorem dX21_isGood_22 : decode cX21_isGood 22 = .ok (.ifCond .eq 12, 3) := dk_153 0 12 (dk_at dksX21_isGood_1 0 rfl rfl)
theorem dX21_isGood_25 : decode cX21_isGood 25 = .ok (.aload_n 0, 1) := dk_42 (dk_at dksX21_isGood_1 3 rfl rfl)
theorem dX21_isGood_26 : decode cX21_isGood 26 = .ok (.iload_n 2, 1) := dk_28 (dk_at dksX21_isGood_1 4 rfl rfl)
theorem dX21_isGood_27 : decode cX21_isGood 27 = .ok (.invokevirtual 130, 3) := dk_182 0 130 (dk_at dksX21_isGood_1 5 rfl rfl)
theorem dX21_isGood_30 : decode cX21_isGood 30 = .ok (.iconst (-1), 1) := dk_2 (dk_at dksX21_isGood_1 8 rfl rfl)
theorem dX21_isGood_31 : decode cX21_isGood 31 = .ok (.if_icmp .ne 7, 3) := dk_160 0 7 (dk_at dksX21_isGood_1 9 rfl rfl)
theorem dX21_isGood_34 : decode cX21_isGood 34 = .ok (.iconst 1, 1) := dk_4 (dk_at dksX21_isGood_1 12 rfl rfl)
theorem dX21_isGood_35 : decode cX21_isGood 35 = .ok (.goto 4, 3) := dk_167 0 4 (dk_at dksX21_isGood_1 13 rfl rfl)
theorem dX21_isGood_38 : decode cX21_isGood 38 = .ok (.iconst 0, 1) := dk_3 (dk_at dksX21_isGood_1 16 rfl rfl)
theorem dX21_isGood_39 : decode cX21_isGood 39 = .ok (.istore_n 1, 1) := dk_60 (dk_at dksX21_isGood_1 17 rfl rfl)
theorem dX21_isGood_40 : decode cX21_isGood 40 = .ok (.iinc 2 1, 3) := dk_132 2 1 (dk_at dksX21_isGood_1 18 rfl rfl)
theorem dX21_isGood_43 : decode cX21_isGood 43 = .ok (.goto (-39), 3) := dk_167 255 217 (dk_at dksX21_isGood_1 21 rfl rfl)
theorem dX21_isGood_46 : decode cX21_isGood 46 = .ok (.iconst 0, 1) := dk_3 (dk_at dksX21_isGood_2 0 rfl rfl)
theorem dX21_isGood_47 : decode cX21_isGood 47 = .ok (.istore_n 2, 1) := dk_61 (dk_at dksX21_isGood_2 1 rfl rfl)
theorem dX21_isGood_48 : decode cX21_isGood 48 = .ok (.iload_n 2, 1) := dk_28 (dk_at dksX21_isGood_2 2 rfl rfl)
theorem dX21_isGood_49 : decode cX21_isGood 49 = .ok (.bipush 6, 2) := dk_16 6 (dk_at dksX21_isGood_2 3 rfl rfl)
theorem dX21_isGood_51 : decode cX21_isGood 51 = .ok (.if_icmp .ge 27, 3) := dk_162 0 27 (dk_at dksX21_isGood_2 5 rfl rfl)
theorem dX21_isGood_54 : decode cX21_isGood 54 = .ok (.iload_n 1, 1) := dk_27 (dk_at dksX21_isGood_2 8 rfl rfl)
theorem dX21_isGood_55 : decode cX21_isGood 55 = .ok (.ifCond .eq 23, 3) := dk_153 0 23 (dk_at dksX21_isGood_2 9 rfl rfl)
theorem dX21_isGood_58 : decode cX21_isGood 58 = .ok (.aload_n 0, 1) := dk_42 (dk_at dksX21_isGood_2 12 rfl rfl)
theorem dX21_isGood_59 : decode cX21_isGood 59 = .ok (.iload_n 2, 1) := dk_28 (dk_at dksX21_isGood_2 13 rfl rfl)
theorem dX21_isGood_60 : decode cX21_isGood 60 = .ok (.invokevirtual 134, 3) := dk_182 0 134 (dk_at dksX21_isGood_2 14 rfl rfl)
theorem dX21_isGood_63 : decode cX21_isGood 63 = .ok (.ifCond .ne 7, 3) := dk_154 0 7 (dk_at dksX21_isGood_2 17 rfl rfl)
theorem dX21_isGood_66 : decode cX21_isGood 66 = .ok (.iconst 1, 1) := dk_4 (dk_at dksX21_isGood_2 20 rfl rfl)
theorem dX21_isGood_67 : decode cX21_isGood 67 = .ok (.goto 4, 3) := dk_167 0 4 (dk_at dksX21_isGood_2 21 rfl rfl)
theorem dX21_isGood_70 : decode cX21_isGood 70 = .ok (.iconst 0, 1) := dk_3 (dk_at dksX21_isGood_3 0 rfl rfl)
theorem dX21_isGood_71 : decode cX21_isGood 71 = .ok (.istore_n 1, 1) := dk_60 (dk_at dksX21_isGood_3 1 rfl rfl)
theorem dX21_isGood_72 : decode cX21_isGood 72 = .ok (.iinc 2 1, 3) := dk_132 2 1 (dk_at dksX21_isGood_3 2 rfl rfl)
theorem dX21_isGood_75 : decode cX21_isGood 75 = .ok (.goto (-27), 3) := dk_167 255 229 (dk_at dksX21_isGood_3 5 rfl rfl)
theorem dX21_isGood_78 : decode cX21_isGood 78 = .ok (.iconst 0, 1) := dk_3 (dk_at dksX21_isGood_3 8 rfl rfl)
theorem dX21_isGood_79 : decode cX21_isGood 79 = .ok (.istore_n 2, 1) := dk_61 (dk_at dksX21_isGood_3 9 rfl rfl)
theorem dX21_isGood_80 : decode cX21_isGood 80 = .ok (.iload_n 2, 1) := dk_28 (dk_at dksX21_isGood_3 10 rfl rfl)
theorem dX21_isGood_81 : decode cX21_isGood 81 = .ok (.aload_n 0, 1) := dk_42 (dk_at dksX21_isGood_3 11 rfl rfl)
theorem dX21_isGood_82 : decode cX21_isGood 82 = .ok (.getfield 55, 3) := dk_180 0 55 (dk_at dksX21_isGood_3 12 rfl rfl)
theorem dX21_isGood_85 : decode cX21_isGood 85 = .ok (.if_icmp .ge 27, 3) := dk_162 0 27 (dk_at dksX21_isGood_3 15 rfl rfl)
theorem dX21_isGood_88 : decode cX21_isGood 88 = .ok (.iload_n 1, 1) := dk_27 (dk_at dksX21_isGood_3 18 rfl rfl)
theorem dX21_isGood_89 : decode cX21_isGood 89 = .ok (.ifCond .eq 23, 3) := dk_153 0 23 (dk_at dksX21_isGood_3 19 rfl rfl)
theorem dX21_isGood_92 : decode cX21_isGood 92 = .ok (.aload_n 0, 1) := dk_42 (dk_at dksX21_isGood_3 22 rfl rfl)
theorem dX21_isGood_93 : decode cX21_isGood 93 = .ok (.iload_n 2, 1) := dk_28 (dk_at dksX21_isGood_3 23 rfl rfl)
theorem dX21_isGood_94 : decode cX21_isGood 94 = .ok (.invokevirtual 137, 3) := dk_182 0 137 (dk_at dksX21_isGood_4 0 rfl rfl)
theorem dX21_isGood_97 : decode cX21_isGood 97 = .ok (.ifCond .ne 7, 3) := dk_154 0 7 (dk_at dksX21_isGood_4 3 rfl rfl)
theorem dX21_isGood_100 : decode cX21_isGood 100 = .ok (.iconst 1, 1) := dk_4 (dk_at dksX21_isGood_4 6 rfl rfl)
theorem dX21_isGood_101 : decode cX21_isGood 101 = .ok (.goto 4, 3) := dk_167 0 4 (dk_at dksX21_isGood_4 7 rfl rfl)
theorem dX21_isGood_104 : decode cX21_isGood 104 = .ok (.iconst 0, 1) := dk_3 (dk_at dksX21_isGood_4 10 rfl rfl)
theorem dX21_isGood_105 : decode cX21_isGood 105 = .ok (.istore_n 1, 1) := dk_60 (dk_at dksX21_isGood_4 11 rfl rfl)
theorem dX21_isGood_106 : decode cX21_isGood 106 = .ok (.iinc 2 1, 3) := dk_132 2 1 (dk_at dksX21_isGood_4 12 rfl rfl)
theorem dX21_isGood_109 : decode cX21_isGood 109 = .ok (.goto (-29), 3) := dk_167 255 227 (dk_at dksX21_isGood_4 15 rfl rfl)
theorem dX21_isGood_112 : decode cX21_isGood 112 = .ok (.iload_n 1, 1) := dk_27 (dk_at dksX21_isGood_4 18 rfl rfl)
theorem dX21_isGood_113 : decode cX21_isGood 113 = .ok (.ireturn, 1) := dk_172 (dk_at dksX21_isGood_4 19 rfl rfl)
abbrev cX21_bring : ByteArray := prog_6_method_20_code
def yX21_bring : MethodName := ⟨RX21, "bring", "(II)V"⟩
def dkwX21_bring_1 : List UInt8 := [180, 0, 161, 90, 4, 96, 181, 0, 161, 181, 0, 164, 45, 28, 181, 0, 106, 177]
abbrev dktX21_bring_1 : List UInt8 := dkwX21_bring_1 ++ []
def dkwX21_bring_0 : List UInt8 := [42, 180, 0, 17, 27, 50, 78, 28, 158, 0, 26, 45, 180, 0, 106, 28, 159, 0, 18, 45, 42, 89]
abbrev dktX21_bring_0 : List UInt8 := dkwX21_bring_0 ++ dktX21_bring_1
theorem dksX21_bring_0 : cX21_bring.data.toList.drop 0 = dktX21_bring_0 := by decide +kernel
theorem dksX21_bring_1 : cX21_bring.data.toList.drop 22 = dktX21_bring_1 := dk_seg dksX21_bring_0 22 rfl rfl
theorem dX21_bring_0 : decode cX21_bring 0 = .ok (.aload_n 0, 1) := dk_42 (dk_at dksX21_bring_0 0 rfl rfl)
theorem dX21_bring_1 : decode cX21_bring 1 = .ok (.getfield 17, 3) := dk_180 0 17 (dk_at dksX21_bring_0 1 rfl rfl)
theorem dX21_bring_4 : decode cX21_bring 4 = .ok (.iload_n 1, 1) := dk_27 (dk_at dksX21_bring_0 4 rfl rfl)
theorem dX21_bring_5 : decode cX21_bring 5 = .ok (.aaload, 1) := dk_50 (dk_at dksX21_bring_0 5 rfl rfl)
theorem dX21_bring_6 : decode cX21_bring 6 = .ok (.astore_n 3, 1) := dk_78 (dk_at dksX21_bring_0 6 rfl rfl)
theorem dX21_bring_7 : decode cX21_bring 7 = .ok (.iload_n 2, 1) := dk_28 (dk_at dksX21_bring_0 7 rfl rfl)
theorem dX21_bring_8 : decode cX21_bring 8 = .ok (.ifCond .le 26, 3) := dk_158 0 26 (dk_at dksX21_bring_0 8 rfl rfl)
theorem dX21_bring_11 : decode cX21_bring 11 = .ok (.aload_n 3, 1) := dk_45 (dk_at dksX21_bring_0 11 rfl rfl)
theorem dX21_bring_12 : decode cX21_bring 12 = .ok (.getfield 106, 3) := dk_180 0 106 (dk_at dksX21_bring_0 12 rfl rfl)
theorem dX21_bring_15 : decode cX21_bring 15 = .ok (.iload_n 2, 1) := dk_28 (dk_at dksX21_bring_0 15 rfl rfl)
theorem dX21_bring_16 : decode cX21_bring 16 = .ok (.if_icmp .eq 18, 3) := dk_159 0 18 (dk_at dksX21_bring_0 16 rfl rfl)
theorem dX21_bring_19 : decode cX21_bring 19 = .ok (.aload_n 3, 1) := dk_45 (dk_at dksX21_bring_0 19 rfl rfl)
theorem dX21_bring_20 : decode cX21_bring 20 = .ok (.aload_n 0, 1) := dk_42 (dk_at dksX21_bring_0 20 rfl rfl)
theorem dX21_bring_21 : decode cX21_bring 21 = .ok (.dup, 1) := dk_89 (dk_at dksX21_bring_0 21 rfl rfl)
theorem dX21_bring_22 : decode cX21_bring 22 = .ok (.getfield 161, 3) := dk_180 0 161 (dk_at dksX21_bring_1 0 rfl rfl)
theorem dX21_bring_25 : decode cX21_bring 25 = .ok (.dup_x1, 1) := dk_90 (dk_at dksX21_bring_1 3 rfl rfl)
theorem dX21_bring_26 : decode cX21_bring 26 = .ok (.iconst 1, 1) := dk_4 (dk_at dksX21_bring_1 4 rfl rfl)
theorem dX21_bring_27 : decode cX21_bring 27 = .ok (.iadd, 1) := dk_96 (dk_at dksX21_bring_1 5 rfl rfl)
theorem dX21_bring_28 : decode cX21_bring 28 = .ok (.putfield 161, 3) := dk_181 0 161 (dk_at dksX21_bring_1 6 rfl rfl)
theorem dX21_bring_31 : decode cX21_bring 31 = .ok (.putfield 164, 3) := dk_181 0 164 (dk_at dksX21_bring_1 9 rfl rfl)
theorem dX21_bring_34 : decode cX21_bring 34 = .ok (.aload_n 3, 1) := dk_45 (dk_at dksX21_bring_1 12 rfl rfl)
theorem dX21_bring_35 : decode cX21_bring 35 = .ok (.iload_n 2, 1) := dk_28 (dk_at dksX21_bring_1 13 rfl rfl)
theorem dX21_bring_36 : decode cX21_bring 36 = .ok (.putfield 106, 3) := dk_181 0 106 (dk_at dksX21_bring_1 14 rfl rfl)
theorem dX21_bring_39 : decode cX21_bring 39 = .ok (.return_, 1) := dk_177 (dk_at dksX21_bring_1 17 rfl rfl)
abbrev cX21_kept : ByteArray := prog_6_method_17_code
def yX21_kept : MethodName := ⟨RX21, "kept", "()Z"⟩
def dkwX21_kept_0 : List UInt8 := [42, 182, 0, 140, 42, 182, 0, 143, 172]
abbrev dktX21_kept_0 : List UInt8 := dkwX21_kept_0 ++ []
theorem dksX21_kept_0 : cX21_kept.data.toList.drop 0 = dktX21_kept_0 := by decide +kernel
theorem dX21_kept_0 : decode cX21_kept 0 = .ok (.aload_n 0, 1) := dk_42 (dk_at dksX21_kept_0 0 rfl rfl)
theorem dX21_kept_1 : decode cX21_kept 1 = .ok (.invokevirtual 140, 3) := dk_182 0 140 (dk_at dksX21_kept_0 1 rfl rfl)
theorem dX21_kept_4 : decode cX21_kept 4 = .ok (.aload_n 0, 1) := dk_42 (dk_at dksX21_kept_0 4 rfl rfl)
theorem dX21_kept_5 : decode cX21_kept 5 = .ok (.invokevirtual 143, 3) := dk_182 0 143 (dk_at dksX21_kept_0 5 rfl rfl)
theorem dX21_kept_8 : decode cX21_kept 8 = .ok (.ireturn, 1) := dk_172 (dk_at dksX21_kept_0 8 rfl rfl)
abbrev cX21_bar : ByteArray := prog_6_method_6_code
def yX21_bar : MethodName := ⟨RX21, "bar", "(III)Z"⟩
def dkwX21_bar_2 : List UInt8 := [28, 104, 27, 96, 29, 147, 86, 4, 172]
abbrev dktX21_bar_2 : List UInt8 := dkwX21_bar_2 ++ []
def dkwX21_bar_1 : List UInt8 := [154, 0, 5, 3, 172, 42, 180, 0, 21, 16, 6, 27, 104, 28, 96, 29, 147, 86, 42, 180, 0, 21, 16, 6]
abbrev dktX21_bar_1 : List UInt8 := dkwX21_bar_1 ++ dktX21_bar_2
def dkwX21_bar_0 : List UInt8 := [27, 184, 0, 65, 153, 0, 22, 28, 184, 0, 65, 153, 0, 15, 29, 133, 9, 20, 0, 69, 184, 0, 71]
abbrev dktX21_bar_0 : List UInt8 := dkwX21_bar_0 ++ dktX21_bar_1
theorem dksX21_bar_0 : cX21_bar.data.toList.drop 0 = dktX21_bar_0 := by decide +kernel
theorem dksX21_bar_1 : cX21_bar.data.toList.drop 23 = dktX21_bar_1 := dk_seg dksX21_bar_0 23 rfl rfl
theorem dksX21_bar_2 : cX21_bar.data.toList.drop 47 = dktX21_bar_2 := dk_seg dksX21_bar_1 24 rfl rfl
theorem dX21_bar_0 : decode cX21_bar 0 = .ok (.iload_n 1, 1) := dk_27 (dk_at dksX21_bar_0 0 rfl rfl)
theorem dX21_bar_1 : decode cX21_bar 1 = .ok (.invokestatic 65, 3) := dk_184 0 65 (dk_at dksX21_bar_0 1 rfl rfl)
theorem dX21_bar_4 : decode cX21_bar 4 = .ok (.ifCond .eq 22, 3) := dk_153 0 22 (dk_at dksX21_bar_0 4 rfl rfl)
theorem dX21_bar_7 : decode cX21_bar 7 = .ok (.iload_n 2, 1) := dk_28 (dk_at dksX21_bar_0 7 rfl rfl)
theorem dX21_bar_8 : decode cX21_bar 8 = .ok (.invokestatic 65, 3) := dk_184 0 65 (dk_at dksX21_bar_0 8 rfl rfl)
theorem dX21_bar_11 : decode cX21_bar 11 = .ok (.ifCond .eq 15, 3) := dk_153 0 15 (dk_at dksX21_bar_0 11 rfl rfl)
theorem dX21_bar_14 : decode cX21_bar 14 = .ok (.iload_n 3, 1) := dk_29 (dk_at dksX21_bar_0 14 rfl rfl)
theorem dX21_bar_15 : decode cX21_bar 15 = .ok (.i2l, 1) := dk_133 (dk_at dksX21_bar_0 15 rfl rfl)
theorem dX21_bar_16 : decode cX21_bar 16 = .ok (.lconst 0, 1) := dk_9 (dk_at dksX21_bar_0 16 rfl rfl)
theorem dX21_bar_17 : decode cX21_bar 17 = .ok (.ldc2_w 69, 3) := dk_20 0 69 (dk_at dksX21_bar_0 17 rfl rfl)
theorem dX21_bar_20 : decode cX21_bar 20 = .ok (.invokestatic 71, 3) := dk_184 0 71 (dk_at dksX21_bar_0 20 rfl rfl)
theorem dX21_bar_23 : decode cX21_bar 23 = .ok (.ifCond .ne 5, 3) := dk_154 0 5 (dk_at dksX21_bar_1 0 rfl rfl)
theorem dX21_bar_26 : decode cX21_bar 26 = .ok (.iconst 0, 1) := dk_3 (dk_at dksX21_bar_1 3 rfl rfl)
theorem dX21_bar_27 : decode cX21_bar 27 = .ok (.ireturn, 1) := dk_172 (dk_at dksX21_bar_1 4 rfl rfl)
theorem dX21_bar_28 : decode cX21_bar 28 = .ok (.aload_n 0, 1) := dk_42 (dk_at dksX21_bar_1 5 rfl rfl)
theorem dX21_bar_29 : decode cX21_bar 29 = .ok (.getfield 21, 3) := dk_180 0 21 (dk_at dksX21_bar_1 6 rfl rfl)
theorem dX21_bar_32 : decode cX21_bar 32 = .ok (.bipush 6, 2) := dk_16 6 (dk_at dksX21_bar_1 9 rfl rfl)
theorem dX21_bar_34 : decode cX21_bar 34 = .ok (.iload_n 1, 1) := dk_27 (dk_at dksX21_bar_1 11 rfl rfl)
theorem dX21_bar_35 : decode cX21_bar 35 = .ok (.imul, 1) := dk_104 (dk_at dksX21_bar_1 12 rfl rfl)
theorem dX21_bar_36 : decode cX21_bar 36 = .ok (.iload_n 2, 1) := dk_28 (dk_at dksX21_bar_1 13 rfl rfl)
theorem dX21_bar_37 : decode cX21_bar 37 = .ok (.iadd, 1) := dk_96 (dk_at dksX21_bar_1 14 rfl rfl)
theorem dX21_bar_38 : decode cX21_bar 38 = .ok (.iload_n 3, 1) := dk_29 (dk_at dksX21_bar_1 15 rfl rfl)
theorem dX21_bar_39 : decode cX21_bar 39 = .ok (.i2s, 1) := dk_147 (dk_at dksX21_bar_1 16 rfl rfl)
theorem dX21_bar_40 : decode cX21_bar 40 = .ok (.sastore, 1) := dk_86 (dk_at dksX21_bar_1 17 rfl rfl)
theorem dX21_bar_41 : decode cX21_bar 41 = .ok (.aload_n 0, 1) := dk_42 (dk_at dksX21_bar_1 18 rfl rfl)
theorem dX21_bar_42 : decode cX21_bar 42 = .ok (.getfield 21, 3) := dk_180 0 21 (dk_at dksX21_bar_1 19 rfl rfl)
theorem dX21_bar_45 : decode cX21_bar 45 = .ok (.bipush 6, 2) := dk_16 6 (dk_at dksX21_bar_1 22 rfl rfl)
theorem dX21_bar_47 : decode cX21_bar 47 = .ok (.iload_n 2, 1) := dk_28 (dk_at dksX21_bar_2 0 rfl rfl)
theorem dX21_bar_48 : decode cX21_bar 48 = .ok (.imul, 1) := dk_104 (dk_at dksX21_bar_2 1 rfl rfl)
theorem dX21_bar_49 : decode cX21_bar 49 = .ok (.iload_n 1, 1) := dk_27 (dk_at dksX21_bar_2 2 rfl rfl)
theorem dX21_bar_50 : decode cX21_bar 50 = .ok (.iadd, 1) := dk_96 (dk_at dksX21_bar_2 3 rfl rfl)
theorem dX21_bar_51 : decode cX21_bar 51 = .ok (.iload_n 3, 1) := dk_29 (dk_at dksX21_bar_2 4 rfl rfl)
theorem dX21_bar_52 : decode cX21_bar 52 = .ok (.i2s, 1) := dk_147 (dk_at dksX21_bar_2 5 rfl rfl)
theorem dX21_bar_53 : decode cX21_bar 53 = .ok (.sastore, 1) := dk_86 (dk_at dksX21_bar_2 6 rfl rfl)
theorem dX21_bar_54 : decode cX21_bar 54 = .ok (.iconst 1, 1) := dk_4 (dk_at dksX21_bar_2 7 rfl rfl)
theorem dX21_bar_55 : decode cX21_bar 55 = .ok (.ireturn, 1) := dk_172 (dk_at dksX21_bar_2 8 rfl rfl)
abbrev cX21_most : ByteArray := prog_6_method_7_code
def yX21_most : MethodName := ⟨RX21, "most", "(IJ)Z"⟩
def dkwX21_most_1 : List UInt8 := [27, 32, 136, 79, 4, 172]
abbrev dktX21_most_1 : List UInt8 := dkwX21_most_1 ++ []
def dkwX21_most_0 : List UInt8 := [27, 184, 0, 65, 153, 0, 14, 32, 9, 20, 0, 75, 184, 0, 71, 154, 0, 5, 3, 172, 42, 180, 0, 25]
abbrev dktX21_most_0 : List UInt8 := dkwX21_most_0 ++ dktX21_most_1
theorem dksX21_most_0 : cX21_most.data.toList.drop 0 = dktX21_most_0 := by decide +kernel
theorem dksX21_most_1 : cX21_most.data.toList.drop 24 = dktX21_most_1 := dk_seg dksX21_most_0 24 rfl rfl
theorem dX21_most_0 : decode cX21_most 0 = .ok (.iload_n 1, 1) := dk_27 (dk_at dksX21_most_0 0 rfl rfl)
theorem dX21_most_1 : decode cX21_most 1 = .ok (.invokestatic 65, 3) := dk_184 0 65 (dk_at dksX21_most_0 1 rfl rfl)
theorem dX21_most_4 : decode cX21_most 4 = .ok (.ifCond .eq 14, 3) := dk_153 0 14 (dk_at dksX21_most_0 4 rfl rfl)
theorem dX21_most_7 : decode cX21_most 7 = .ok (.lload_n 2, 1) := dk_32 (dk_at dksX21_most_0 7 rfl rfl)
theorem dX21_most_8 : decode cX21_most 8 = .ok (.lconst 0, 1) := dk_9 (dk_at dksX21_most_0 8 rfl rfl)
theorem dX21_most_9 : decode cX21_most 9 = .ok (.ldc2_w 75, 3) := dk_20 0 75 (dk_at dksX21_most_0 9 rfl rfl)
theorem dX21_most_12 : decode cX21_most 12 = .ok (.invokestatic 71, 3) := dk_184 0 71 (dk_at dksX21_most_0 12 rfl rfl)
theorem dX21_most_15 : decode cX21_most 15 = .ok (.ifCond .ne 5, 3) := dk_154 0 5 (dk_at dksX21_most_0 15 rfl rfl)
theorem dX21_most_18 : decode cX21_most 18 = .ok (.iconst 0, 1) := dk_3 (dk_at dksX21_most_0 18 rfl rfl)
theorem dX21_most_19 : decode cX21_most 19 = .ok (.ireturn, 1) := dk_172 (dk_at dksX21_most_0 19 rfl rfl)
theorem dX21_most_20 : decode cX21_most 20 = .ok (.aload_n 0, 1) := dk_42 (dk_at dksX21_most_0 20 rfl rfl)
theorem dX21_most_21 : decode cX21_most 21 = .ok (.getfield 25, 3) := dk_180 0 25 (dk_at dksX21_most_0 21 rfl rfl)
theorem dX21_most_24 : decode cX21_most 24 = .ok (.iload_n 1, 1) := dk_27 (dk_at dksX21_most_1 0 rfl rfl)
theorem dX21_most_25 : decode cX21_most 25 = .ok (.lload_n 2, 1) := dk_32 (dk_at dksX21_most_1 1 rfl rfl)
theorem dX21_most_26 : decode cX21_most 26 = .ok (.l2i, 1) := dk_136 (dk_at dksX21_most_1 2 rfl rfl)
theorem dX21_most_27 : decode cX21_most 27 = .ok (.iastore, 1) := dk_79 (dk_at dksX21_most_1 3 rfl rfl)
theorem dX21_most_28 : decode cX21_most 28 = .ok (.iconst 1, 1) := dk_4 (dk_at dksX21_most_1 4 rfl rfl)
theorem dX21_most_29 : decode cX21_most 29 = .ok (.ireturn, 1) := dk_172 (dk_at dksX21_most_1 5 rfl rfl)
abbrev cX21_place : ByteArray := prog_6_method_8_code
def yX21_place : MethodName := ⟨RX21, "place", "(JJJ)I"⟩
def dkwX21_place_3 : List UInt8 := [181, 0, 86, 25, 7, 22, 5, 136, 181, 0, 89, 42, 89, 180, 0, 55, 90, 4, 96, 181, 0, 55, 172]
abbrev dktX21_place_3 : List UInt8 := dkwX21_place_3 ++ []
def dkwX21_place_2 : List UInt8 := [2, 172, 42, 180, 0, 9, 42, 180, 0, 55, 50, 58, 7, 25, 7, 31, 136, 181, 0, 83, 25, 7, 33, 136]
abbrev dktX21_place_2 : List UInt8 := dkwX21_place_2 ++ dktX21_place_3
def dkwX21_place_1 : List UInt8 := [20, 0, 77, 20, 0, 79, 184, 0, 71, 153, 0, 15, 22, 5, 9, 20, 0, 81, 184, 0, 71, 154, 0, 5]
abbrev dktX21_place_1 : List UInt8 := dkwX21_place_1 ++ dktX21_place_2
def dkwX21_place_0 : List UInt8 := [42, 180, 0, 55, 7, 159, 0, 41, 31, 20, 0, 77, 20, 0, 79, 184, 0, 71, 153, 0, 28, 33]
abbrev dktX21_place_0 : List UInt8 := dkwX21_place_0 ++ dktX21_place_1
theorem dksX21_place_0 : cX21_place.data.toList.drop 0 = dktX21_place_0 := by decide +kernel
theorem dksX21_place_1 : cX21_place.data.toList.drop 22 = dktX21_place_1 := dk_seg dksX21_place_0 22 rfl rfl
theorem dksX21_place_2 : cX21_place.data.toList.drop 46 = dktX21_place_2 := dk_seg dksX21_place_1 24 rfl rfl
theorem dksX21_place_3 : cX21_place.data.toList.drop 70 = dktX21_place_3 := dk_seg dksX21_place_2 24 rfl rfl
theorem dX21_place_0 : decode cX21_place 0 = .ok (.aload_n 0, 1) := dk_42 (dk_at dksX21_place_0 0 rfl rfl)
theorem dX21_place_1 : decode cX21_place 1 = .ok (.getfield 55, 3) := dk_180 0 55 (dk_at dksX21_place_0 1 rfl rfl)
theorem dX21_place_4 : decode cX21_place 4 = .ok (.iconst 4, 1) := dk_7 (dk_at dksX21_place_0 4 rfl rfl)
theorem dX21_place_5 : decode cX21_place 5 = .ok (.if_icmp .eq 41, 3) := dk_159 0 41 (dk_at dksX21_place_0 5 rfl rfl)
theorem dX21_place_8 : decode cX21_place 8 = .ok (.lload_n 1, 1) := dk_31 (dk_at dksX21_place_0 8 rfl rfl)
theorem dX21_place_9 : decode cX21_place 9 = .ok (.ldc2_w 77, 3) := dk_20 0 77 (dk_at dksX21_place_0 9 rfl rfl)
theorem dX21_place_12 : decode cX21_place 12 = .ok (.ldc2_w 79, 3) := dk_20 0 79 (dk_at dksX21_place_0 12 rfl rfl)
theorem dX21_place_15 : decode cX21_place 15 = .ok (.invokestatic 71, 3) := dk_184 0 71 (dk_at dksX21_place_0 15 rfl rfl)
theorem dX21_place_18 : decode cX21_place 18 = .ok (.ifCond .eq 28, 3) := dk_153 0 28 (dk_at dksX21_place_0 18 rfl rfl)
theorem dX21_place_21 : decode cX21_place 21 = .ok (.lload_n 3, 1) := dk_33 (dk_at dksX21_place_0 21 rfl rfl)
theorem dX21_place_22 : decode cX21_place 22 = .ok (.ldc2_w 77, 3) := dk_20 0 77 (dk_at dksX21_place_1 0 rfl rfl)
theorem dX21_place_25 : decode cX21_place 25 = .ok (.ldc2_w 79, 3) := dk_20 0 79 (dk_at dksX21_place_1 3 rfl rfl)
theorem dX21_place_28 : decode cX21_place 28 = .ok (.invokestatic 71, 3) := dk_184 0 71 (dk_at dksX21_place_1 6 rfl rfl)
theorem dX21_place_31 : decode cX21_place 31 = .ok (.ifCond .eq 15, 3) := dk_153 0 15 (dk_at dksX21_place_1 9 rfl rfl)
theorem dX21_place_34 : decode cX21_place 34 = .ok (.lload 5, 2) := dk_22 5 (dk_at dksX21_place_1 12 rfl rfl)
theorem dX21_place_36 : decode cX21_place 36 = .ok (.lconst 0, 1) := dk_9 (dk_at dksX21_place_1 14 rfl rfl)
theorem dX21_place_37 : decode cX21_place 37 = .ok (.ldc2_w 81, 3) := dk_20 0 81 (dk_at dksX21_place_1 15 rfl rfl)
theorem dX21_place_40 : decode cX21_place 40 = .ok (.invokestatic 71, 3) := dk_184 0 71 (dk_at dksX21_place_1 18 rfl rfl)
theorem dX21_place_43 : decode cX21_place 43 = .ok (.ifCond .ne 5, 3) := dk_154 0 5 (dk_at dksX21_place_1 21 rfl rfl)
theorem dX21_place_46 : decode cX21_place 46 = .ok (.iconst (-1), 1) := dk_2 (dk_at dksX21_place_2 0 rfl rfl)
theorem dX21_place_47 : decode cX21_place 47 = .ok (.ireturn, 1) := dk_172 (dk_at dksX21_place_2 1 rfl rfl)
theorem dX21_place_48 : decode cX21_place 48 = .ok (.aload_n 0, 1) := dk_42 (dk_at dksX21_place_2 2 rfl rfl)
theorem dX21_place_49 : decode cX21_place 49 = .ok (.getfield 9, 3) := dk_180 0 9 (dk_at dksX21_place_2 3 rfl rfl)
theorem dX21_place_52 : decode cX21_place 52 = .ok (.aload_n 0, 1) := dk_42 (dk_at dksX21_place_2 6 rfl rfl)
theorem dX21_place_53 : decode cX21_place 53 = .ok (.getfield 55, 3) := dk_180 0 55 (dk_at dksX21_place_2 7 rfl rfl)
theorem dX21_place_56 : decode cX21_place 56 = .ok (.aaload, 1) := dk_50 (dk_at dksX21_place_2 10 rfl rfl)
theorem dX21_place_57 : decode cX21_place 57 = .ok (.astore 7, 2) := dk_58 7 (dk_at dksX21_place_2 11 rfl rfl)
theorem dX21_place_59 : decode cX21_place 59 = .ok (.aload 7, 2) := dk_25 7 (dk_at dksX21_place_2 13 rfl rfl)
theorem dX21_place_61 : decode cX21_place 61 = .ok (.lload_n 1, 1) := dk_31 (dk_at dksX21_place_2 15 rfl rfl)
theorem dX21_place_62 : decode cX21_place 62 = .ok (.l2i, 1) := dk_136 (dk_at dksX21_place_2 16 rfl rfl)
theorem dX21_place_63 : decode cX21_place 63 = .ok (.putfield 83, 3) := dk_181 0 83 (dk_at dksX21_place_2 17 rfl rfl)
theorem dX21_place_66 : decode cX21_place 66 = .ok (.aload 7, 2) := dk_25 7 (dk_at dksX21_place_2 20 rfl rfl)
theorem dX21_place_68 : decode cX21_place 68 = .ok (.lload_n 3, 1) := dk_33 (dk_at dksX21_place_2 22 rfl rfl)
theorem dX21_place_69 : decode cX21_place 69 = .ok (.l2i, 1) := dk_136 (dk_at dksX21_place_2 23 rfl rfl)
theorem dX21_place_70 : decode cX21_place 70 = .ok (.putfield 86, 3) := dk_181 0 86 (dk_at dksX21_place_3 0 rfl rfl)
theorem dX21_place_73 : decode cX21_place 73 = .ok (.aload 7, 2) := dk_25 7 (dk_at dksX21_place_3 3 rfl rfl)
theorem dX21_place_75 : decode cX21_place 75 = .ok (.lload 5, 2) := dk_22 5 (dk_at dksX21_place_3 5 rfl rfl)
theorem dX21_place_77 : decode cX21_place 77 = .ok (.l2i, 1) := dk_136 (dk_at dksX21_place_3 7 rfl rfl)
theorem dX21_place_78 : decode cX21_place 78 = .ok (.putfield 89, 3) := dk_181 0 89 (dk_at dksX21_place_3 8 rfl rfl)
theorem dX21_place_81 : decode cX21_place 81 = .ok (.aload_n 0, 1) := dk_42 (dk_at dksX21_place_3 11 rfl rfl)
theorem dX21_place_82 : decode cX21_place 82 = .ok (.dup, 1) := dk_89 (dk_at dksX21_place_3 12 rfl rfl)
theorem dX21_place_83 : decode cX21_place 83 = .ok (.getfield 55, 3) := dk_180 0 55 (dk_at dksX21_place_3 13 rfl rfl)
theorem dX21_place_86 : decode cX21_place 86 = .ok (.dup_x1, 1) := dk_90 (dk_at dksX21_place_3 16 rfl rfl)
theorem dX21_place_87 : decode cX21_place 87 = .ok (.iconst 1, 1) := dk_4 (dk_at dksX21_place_3 17 rfl rfl)
theorem dX21_place_88 : decode cX21_place 88 = .ok (.iadd, 1) := dk_96 (dk_at dksX21_place_3 18 rfl rfl)
theorem dX21_place_89 : decode cX21_place 89 = .ok (.putfield 55, 3) := dk_181 0 55 (dk_at dksX21_place_3 19 rfl rfl)
theorem dX21_place_92 : decode cX21_place 92 = .ok (.ireturn, 1) := dk_172 (dk_at dksX21_place_3 22 rfl rfl)
abbrev cX21_placeOf : ByteArray := prog_6_method_21_code
def yX21_placeOf : MethodName := ⟨RX21, "placeOf", "(I)I"⟩
def dkwX21_placeOf_1 : List UInt8 := [167, 0, 4, 2, 172]
abbrev dktX21_placeOf_1 : List UInt8 := dkwX21_placeOf_1 ++ []
def dkwX21_placeOf_0 : List UInt8 := [27, 155, 0, 25, 27, 42, 180, 0, 58, 162, 0, 17, 42, 180, 0, 17, 27, 50, 180, 0, 106, 4, 100]
abbrev dktX21_placeOf_0 : List UInt8 := dkwX21_placeOf_0 ++ dktX21_placeOf_1
theorem dksX21_placeOf_0 : cX21_placeOf.data.toList.drop 0 = dktX21_placeOf_0 := by decide +kernel
theorem dksX21_placeOf_1 : cX21_placeOf.data.toList.drop 23 = dktX21_placeOf_1 := dk_seg dksX21_placeOf_0 23 rfl rfl
theorem dX21_placeOf_0 : decode cX21_placeOf 0 = .ok (.iload_n 1, 1) := dk_27 (dk_at dksX21_placeOf_0 0 rfl rfl)
theorem dX21_placeOf_1 : decode cX21_placeOf 1 = .ok (.ifCond .lt 25, 3) := dk_155 0 25 (dk_at dksX21_placeOf_0 1 rfl rfl)
theorem dX21_placeOf_4 : decode cX21_placeOf 4 = .ok (.iload_n 1, 1) := dk_27 (dk_at dksX21_placeOf_0 4 rfl rfl)
theorem dX21_placeOf_5 : decode cX21_placeOf 5 = .ok (.aload_n 0, 1) := dk_42 (dk_at dksX21_placeOf_0 5 rfl rfl)
theorem dX21_placeOf_6 : decode cX21_placeOf 6 = .ok (.getfield 58, 3) := dk_180 0 58 (dk_at dksX21_placeOf_0 6 rfl rfl)
theorem dX21_placeOf_9 : decode cX21_placeOf 9 = .ok (.if_icmp .ge 17, 3) := dk_162 0 17 (dk_at dksX21_placeOf_0 9 rfl rfl)
theorem dX21_placeOf_12 : decode cX21_placeOf 12 = .ok (.aload_n 0, 1) := dk_42 (dk_at dksX21_placeOf_0 12 rfl rfl)
theorem dX21_placeOf_13 : decode cX21_placeOf 13 = .ok (.getfield 17, 3) := dk_180 0 17 (dk_at dksX21_placeOf_0 13 rfl rfl)
theorem dX21_placeOf_16 : decode cX21_placeOf 16 = .ok (.iload_n 1, 1) := dk_27 (dk_at dksX21_placeOf_0 16 rfl rfl)
theorem dX21_placeOf_17 : decode cX21_placeOf 17 = .ok (.aaload, 1) := dk_50 (dk_at dksX21_placeOf_0 17 rfl rfl)
theorem dX21_placeOf_18 : decode cX21_placeOf 18 = .ok (.getfield 106, 3) := dk_180 0 106 (dk_at dksX21_placeOf_0 18 rfl rfl)
theorem dX21_placeOf_21 : decode cX21_placeOf 21 = .ok (.iconst 1, 1) := dk_4 (dk_at dksX21_placeOf_0 21 rfl rfl)
theorem dX21_placeOf_22 : decode cX21_placeOf 22 = .ok (.isub, 1) := dk_100 (dk_at dksX21_placeOf_0 22 rfl rfl)
theorem dX21_placeOf_23 : decode cX21_placeOf 23 = .ok (.goto 4, 3) := dk_167 0 4 (dk_at dksX21_placeOf_1 0 rfl rfl)
theorem dX21_placeOf_26 : decode cX21_placeOf 26 = .ok (.iconst (-1), 1) := dk_2 (dk_at dksX21_placeOf_1 3 rfl rfl)
theorem dX21_placeOf_27 : decode cX21_placeOf 27 = .ok (.ireturn, 1) := dk_172 (dk_at dksX21_placeOf_1 4 rfl rfl)
abbrev cX21_plan : ByteArray := prog_6_method_23_code
def yX21_plan : MethodName := ⟨RX21, "plan", "(I)I"⟩
def dkwX21_plan_8 : List UInt8 := [132, 4, 1, 132, 5, 1, 167, 255, 218, 21, 4, 172]
abbrev dktX21_plan_8 : List UInt8 := dkwX21_plan_8 ++ []
def dkwX21_plan_7 : List UInt8 := [21, 5, 50, 180, 0, 61, 154, 0, 19, 42, 21, 5, 42, 180, 0, 33, 21, 5, 46, 182, 0, 157]
abbrev dktX21_plan_7 : List UInt8 := dkwX21_plan_7 ++ dktX21_plan_8
def dkwX21_plan_6 : List UInt8 := [3, 62, 29, 154, 0, 5, 2, 172, 3, 54, 4, 3, 54, 5, 21, 5, 27, 162, 0, 38, 42, 180, 0, 17]
abbrev dktX21_plan_6 : List UInt8 := dkwX21_plan_6 ++ dktX21_plan_7
def dkwX21_plan_5 : List UInt8 := [42, 28, 182, 0, 170, 61, 167, 255, 174, 28, 155, 0, 14, 42, 182, 0, 143, 153, 0, 7, 4, 167, 0, 4]
abbrev dktX21_plan_5 : List UInt8 := dkwX21_plan_5 ++ dktX21_plan_6
def dkwX21_plan_4 : List UInt8 := [28, 182, 0, 167, 153, 0, 7, 4, 167, 0, 4, 3, 96, 61, 167, 255, 190, 42, 180, 0, 33, 28, 3, 79]
abbrev dktX21_plan_4 : List UInt8 := dkwX21_plan_4 ++ dktX21_plan_5
def dkwX21_plan_3 : List UInt8 := [180, 0, 33, 28, 46, 42, 180, 0, 55, 162, 0, 32, 42, 180, 0, 33, 28, 92, 46, 4, 96, 79, 28, 42]
abbrev dktX21_plan_3 : List UInt8 := dkwX21_plan_3 ++ dktX21_plan_4
def dkwX21_plan_2 : List UInt8 := [162, 0, 79, 42, 180, 0, 17, 28, 50, 180, 0, 61, 153, 0, 9, 132, 2, 1, 167, 255, 232, 42]
abbrev dktX21_plan_2 : List UInt8 := dkwX21_plan_2 ++ dktX21_plan_3
def dkwX21_plan_1 : List UInt8 := [162, 0, 16, 42, 180, 0, 33, 28, 3, 79, 132, 2, 1, 167, 255, 241, 3, 61, 28, 155, 0, 84, 28, 27]
abbrev dktX21_plan_1 : List UInt8 := dkwX21_plan_1 ++ dktX21_plan_2
def dkwX21_plan_0 : List UInt8 := [27, 155, 0, 11, 27, 42, 180, 0, 58, 164, 0, 5, 2, 172, 42, 182, 0, 140, 3, 61, 28, 27]
abbrev dktX21_plan_0 : List UInt8 := dkwX21_plan_0 ++ dktX21_plan_1
theorem dksX21_plan_0 : cX21_plan.data.toList.drop 0 = dktX21_plan_0 := by decide +kernel
theorem dksX21_plan_1 : cX21_plan.data.toList.drop 22 = dktX21_plan_1 := dk_seg dksX21_plan_0 22 rfl rfl
theorem dksX21_plan_2 : cX21_plan.data.toList.drop 46 = dktX21_plan_2 := dk_seg dksX21_plan_1 24 rfl rfl
theorem dksX21_plan_3 : cX21_plan.data.toList.drop 68 = dktX21_plan_3 := dk_seg dksX21_plan_2 22 rfl rfl
theorem dksX21_plan_4 : cX21_plan.data.toList.drop 92 = dktX21_plan_4 := dk_seg dksX21_plan_3 24 rfl rfl
theorem dksX21_plan_5 : cX21_plan.data.toList.drop 116 = dktX21_plan_5 := dk_seg dksX21_plan_4 24 rfl rfl
theorem dksX21_plan_6 : cX21_plan.data.toList.drop 140 = dktX21_plan_6 := dk_seg dksX21_plan_5 24 rfl rfl
theorem dksX21_plan_7 : cX21_plan.data.toList.drop 164 = dktX21_plan_7 := dk_seg dksX21_plan_6 24 rfl rfl
theorem dksX21_plan_8 : cX21_plan.data.toList.drop 186 = dktX21_plan_8 := dk_seg dksX21_plan_7 22 rfl rfl
theorem dX21_plan_0 : decode cX21_plan 0 = .ok (.iload_n 1, 1) := dk_27 (dk_at dksX21_plan_0 0 rfl rfl)
theorem dX21_plan_1 : decode cX21_plan 1 = .ok (.ifCond .lt 11, 3) := dk_155 0 11 (dk_at dksX21_plan_0 1 rfl rfl)
theorem dX21_plan_4 : decode cX21_plan 4 = .ok (.iload_n 1, 1) := dk_27 (dk_at dksX21_plan_0 4 rfl rfl)
theorem dX21_plan_5 : decode cX21_plan 5 = .ok (.aload_n 0, 1) := dk_42 (dk_at dksX21_plan_0 5 rfl rfl)
theorem dX21_plan_6 : decode cX21_plan 6 = .ok (.getfield 58, 3) := dk_180 0 58 (dk_at dksX21_plan_0 6 rfl rfl)
theorem dX21_plan_9 : decode cX21_plan 9 = .ok (.if_icmp .le 5, 3) := dk_164 0 5 (dk_at dksX21_plan_0 9 rfl rfl)
theorem dX21_plan_12 : decode cX21_plan 12 = .ok (.iconst (-1), 1) := dk_2 (dk_at dksX21_plan_0 12 rfl rfl)
theorem dX21_plan_13 : decode cX21_plan 13 = .ok (.ireturn, 1) := dk_172 (dk_at dksX21_plan_0 13 rfl rfl)
theorem dX21_plan_14 : decode cX21_plan 14 = .ok (.aload_n 0, 1) := dk_42 (dk_at dksX21_plan_0 14 rfl rfl)
theorem dX21_plan_15 : decode cX21_plan 15 = .ok (.invokevirtual 140, 3) := dk_182 0 140 (dk_at dksX21_plan_0 15 rfl rfl)
theorem dX21_plan_18 : decode cX21_plan 18 = .ok (.iconst 0, 1) := dk_3 (dk_at dksX21_plan_0 18 rfl rfl)
theorem dX21_plan_19 : decode cX21_plan 19 = .ok (.istore_n 2, 1) := dk_61 (dk_at dksX21_plan_0 19 rfl rfl)
theorem dX21_plan_20 : decode cX21_plan 20 = .ok (.iload_n 2, 1) := dk_28 (dk_at dksX21_plan_0 20 rfl rfl)
theorem dX21_plan_21 : decode cX21_plan 21 = .ok (.iload_n 1, 1) := dk_27 (dk_at dksX21_plan_0 21 rfl rfl)
theorem dX21_plan_22 : decode cX21_plan 22 = .ok (.if_icmp .ge 16, 3) := dk_162 0 16 (dk_at dksX21_plan_1 0 rfl rfl)
theorem dX21_plan_25 : decode cX21_plan 25 = .ok (.aload_n 0, 1) := dk_42 (dk_at dksX21_plan_1 3 rfl rfl)
theorem dX21_plan_26 : decode cX21_plan 26 = .ok (.getfield 33, 3) := dk_180 0 33 (dk_at dksX21_plan_1 4 rfl rfl)
theorem dX21_plan_29 : decode cX21_plan 29 = .ok (.iload_n 2, 1) := dk_28 (dk_at dksX21_plan_1 7 rfl rfl)
theorem dX21_plan_30 : decode cX21_plan 30 = .ok (.iconst 0, 1) := dk_3 (dk_at dksX21_plan_1 8 rfl rfl)
theorem dX21_plan_31 : decode cX21_plan 31 = .ok (.iastore, 1) := dk_79 (dk_at dksX21_plan_1 9 rfl rfl)
theorem dX21_plan_32 : decode cX21_plan 32 = .ok (.iinc 2 1, 3) := dk_132 2 1 (dk_at dksX21_plan_1 10 rfl rfl)
theorem dX21_plan_35 : decode cX21_plan 35 = .ok (.goto (-15), 3) := dk_167 255 241 (dk_at dksX21_plan_1 13 rfl rfl)
theorem dX21_plan_38 : decode cX21_plan 38 = .ok (.iconst 0, 1) := dk_3 (dk_at dksX21_plan_1 16 rfl rfl)
theorem dX21_plan_39 : decode cX21_plan 39 = .ok (.istore_n 2, 1) := dk_61 (dk_at dksX21_plan_1 17 rfl rfl)
theorem dX21_plan_40 : decode cX21_plan 40 = .ok (.iload_n 2, 1) := dk_28 (dk_at dksX21_plan_1 18 rfl rfl)
theorem dX21_plan_41 : decode cX21_plan 41 = .ok (.ifCond .lt 84, 3) := dk_155 0 84 (dk_at dksX21_plan_1 19 rfl rfl)
theorem dX21_plan_44 : decode cX21_plan 44 = .ok (.iload_n 2, 1) := dk_28 (dk_at dksX21_plan_1 22 rfl rfl)
theorem dX21_plan_45 : decode cX21_plan 45 = .ok (.iload_n 1, 1) := dk_27 (dk_at dksX21_plan_1 23 rfl rfl)
theorem dX21_plan_46 : decode cX21_plan 46 = .ok (.if_icmp .ge 79, 3) := dk_162 0 79 (dk_at dksX21_plan_2 0 rfl rfl)
theorem dX21_plan_49 : decode cX21_plan 49 = .ok (.aload_n 0, 1) := dk_42 (dk_at dksX21_plan_2 3 rfl rfl)
theorem dX21_plan_50 : decode cX21_plan 50 = .ok (.getfield 17, 3) := dk_180 0 17 (dk_at dksX21_plan_2 4 rfl rfl)
theorem dX21_plan_53 : decode cX21_plan 53 = .ok (.iload_n 2, 1) := dk_28 (dk_at dksX21_plan_2 7 rfl rfl)
theorem dX21_plan_54 : decode cX21_plan 54 = .ok (.aaload, 1) := dk_50 (dk_at dksX21_plan_2 8 rfl rfl)
theorem dX21_plan_55 : decode cX21_plan 55 = .ok (.getfield 61, 3) := dk_180 0 61 (dk_at dksX21_plan_2 9 rfl rfl)
theorem dX21_plan_58 : decode cX21_plan 58 = .ok (.ifCond .eq 9, 3) := dk_153 0 9 (dk_at dksX21_plan_2 12 rfl rfl)
theorem dX21_plan_61 : decode cX21_plan 61 = .ok (.iinc 2 1, 3) := dk_132 2 1 (dk_at dksX21_plan_2 15 rfl rfl)
theorem dX21_plan_64 : decode cX21_plan 64 = .ok (.goto (-24), 3) := dk_167 255 232 (dk_at dksX21_plan_2 18 rfl rfl)
theorem dX21_plan_67 : decode cX21_plan 67 = .ok (.aload_n 0, 1) := dk_42 (dk_at dksX21_plan_2 21 rfl rfl)
theorem dX21_plan_68 : decode cX21_plan 68 = .ok (.getfield 33, 3) := dk_180 0 33 (dk_at dksX21_plan_3 0 rfl rfl)
theorem dX21_plan_71 : decode cX21_plan 71 = .ok (.iload_n 2, 1) := dk_28 (dk_at dksX21_plan_3 3 rfl rfl)
theorem dX21_plan_72 : decode cX21_plan 72 = .ok (.iaload, 1) := dk_46 (dk_at dksX21_plan_3 4 rfl rfl)
theorem dX21_plan_73 : decode cX21_plan 73 = .ok (.aload_n 0, 1) := dk_42 (dk_at dksX21_plan_3 5 rfl rfl)
theorem dX21_plan_74 : decode cX21_plan 74 = .ok (.getfield 55, 3) := dk_180 0 55 (dk_at dksX21_plan_3 6 rfl rfl)
theorem dX21_plan_77 : decode cX21_plan 77 = .ok (.if_icmp .ge 32, 3) := dk_162 0 32 (dk_at dksX21_plan_3 9 rfl rfl)
theorem dX21_plan_80 : decode cX21_plan 80 = .ok (.aload_n 0, 1) := dk_42 (dk_at dksX21_plan_3 12 rfl rfl)
theorem dX21_plan_81 : decode cX21_plan 81 = .ok (.getfield 33, 3) := dk_180 0 33 (dk_at dksX21_plan_3 13 rfl rfl)
theorem dX21_plan_84 : decode cX21_plan 84 = .ok (.iload_n 2, 1) := dk_28 (dk_at dksX21_plan_3 16 rfl rfl)
theorem dX21_plan_85 : decode cX21_plan 85 = .ok (.dup2, 1) := dk_92 (dk_at dksX21_plan_3 17 rfl rfl)
theorem dX21_plan_86 : decode cX21_plan 86 = .ok (.iaload, 1) := dk_46 (dk_at dksX21_plan_3 18 rfl rfl)
theorem dX21_plan_87 : decode cX21_plan 87 = .ok (.iconst 1, 1) := dk_4 (dk_at dksX21_plan_3 19 rfl rfl)
theorem dX21_plan_88 : decode cX21_plan 88 = .ok (.iadd, 1) := dk_96 (dk_at dksX21_plan_3 20 rfl rfl)
theorem dX21_plan_89 : decode cX21_plan 89 = .ok (.iastore, 1) := dk_79 (dk_at dksX21_plan_3 21 rfl rfl)
theorem dX21_plan_90 : decode cX21_plan 90 = .ok (.iload_n 2, 1) := dk_28 (dk_at dksX21_plan_3 22 rfl rfl)
theorem dX21_plan_91 : decode cX21_plan 91 = .ok (.aload_n 0, 1) := dk_42 (dk_at dksX21_plan_3 23 rfl rfl)
theorem dX21_plan_92 : decode cX21_plan 92 = .ok (.iload_n 2, 1) := dk_28 (dk_at dksX21_plan_4 0 rfl rfl)
theorem dX21_plan_93 : decode cX21_plan 93 = .ok (.invokevirtual 167, 3) := dk_182 0 167 (dk_at dksX21_plan_4 1 rfl rfl)
theorem dX21_plan_96 : decode cX21_plan 96 = .ok (.ifCond .eq 7, 3) := dk_153 0 7 (dk_at dksX21_plan_4 4 rfl rfl)
theorem dX21_plan_99 : decode cX21_plan 99 = .ok (.iconst 1, 1) := dk_4 (dk_at dksX21_plan_4 7 rfl rfl)
theorem dX21_plan_100 : decode cX21_plan 100 = .ok (.goto 4, 3) := dk_167 0 4 (dk_at dksX21_plan_4 8 rfl rfl)
theorem dX21_plan_103 : decode cX21_plan 103 = .ok (.iconst 0, 1) := dk_3 (dk_at dksX21_plan_4 11 rfl rfl)
theorem dX21_plan_104 : decode cX21_plan 104 = .ok (.iadd, 1) := dk_96 (dk_at dksX21_plan_4 12 rfl rfl)
theorem dX21_plan_105 : decode cX21_plan 105 = .ok (.istore_n 2, 1) := dk_61 (dk_at dksX21_plan_4 13 rfl rfl)
theorem dX21_plan_106 : decode cX21_plan 106 = .ok (.goto (-66), 3) := dk_167 255 190 (dk_at dksX21_plan_4 14 rfl rfl)
theorem dX21_plan_109 : decode cX21_plan 109 = .ok (.aload_n 0, 1) := dk_42 (dk_at dksX21_plan_4 17 rfl rfl)
theorem dX21_plan_110 : decode cX21_plan 110 = .ok (.getfield 33, 3) := dk_180 0 33 (dk_at dksX21_plan_4 18 rfl rfl)
theorem dX21_plan_113 : decode cX21_plan 113 = .ok (.iload_n 2, 1) := dk_28 (dk_at dksX21_plan_4 21 rfl rfl)
theorem dX21_plan_114 : decode cX21_plan 114 = .ok (.iconst 0, 1) := dk_3 (dk_at dksX21_plan_4 22 rfl rfl)
theorem dX21_plan_115 : decode cX21_plan 115 = .ok (.iastore, 1) := dk_79 (dk_at dksX21_plan_4 23 rfl rfl)
theorem dX21_plan_116 : decode cX21_plan 116 = .ok (.aload_n 0, 1) := dk_42 (dk_at dksX21_plan_5 0 rfl rfl)
theorem dX21_plan_117 : decode cX21_plan 117 = .ok (.iload_n 2, 1) := dk_28 (dk_at dksX21_plan_5 1 rfl rfl)
theorem dX21_plan_118 : decode cX21_plan 118 = .ok (.invokevirtual 170, 3) := dk_182 0 170 (dk_at dksX21_plan_5 2 rfl rfl)
theorem dX21_plan_121 : decode cX21_plan 121 = .ok (.istore_n 2, 1) := dk_61 (dk_at dksX21_plan_5 5 rfl rfl)
theorem dX21_plan_122 : decode cX21_plan 122 = .ok (.goto (-82), 3) := dk_167 255 174 (dk_at dksX21_plan_5 6 rfl rfl)
theorem dX21_plan_125 : decode cX21_plan 125 = .ok (.iload_n 2, 1) := dk_28 (dk_at dksX21_plan_5 9 rfl rfl)
theorem dX21_plan_126 : decode cX21_plan 126 = .ok (.ifCond .lt 14, 3) := dk_155 0 14 (dk_at dksX21_plan_5 10 rfl rfl)
theorem dX21_plan_129 : decode cX21_plan 129 = .ok (.aload_n 0, 1) := dk_42 (dk_at dksX21_plan_5 13 rfl rfl)
theorem dX21_plan_130 : decode cX21_plan 130 = .ok (.invokevirtual 143, 3) := dk_182 0 143 (dk_at dksX21_plan_5 14 rfl rfl)
theorem dX21_plan_133 : decode cX21_plan 133 = .ok (.ifCond .eq 7, 3) := dk_153 0 7 (dk_at dksX21_plan_5 17 rfl rfl)
theorem dX21_plan_136 : decode cX21_plan 136 = .ok (.iconst 1, 1) := dk_4 (dk_at dksX21_plan_5 20 rfl rfl)
theorem dX21_plan_137 : decode cX21_plan 137 = .ok (.goto 4, 3) := dk_167 0 4 (dk_at dksX21_plan_5 21 rfl rfl)
theorem dX21_plan_140 : decode cX21_plan 140 = .ok (.iconst 0, 1) := dk_3 (dk_at dksX21_plan_6 0 rfl rfl)
theorem dX21_plan_141 : decode cX21_plan 141 = .ok (.istore_n 3, 1) := dk_62 (dk_at dksX21_plan_6 1 rfl rfl)
theorem dX21_plan_142 : decode cX21_plan 142 = .ok (.iload_n 3, 1) := dk_29 (dk_at dksX21_plan_6 2 rfl rfl)
theorem dX21_plan_143 : decode cX21_plan 143 = .ok (.ifCond .ne 5, 3) := dk_154 0 5 (dk_at dksX21_plan_6 3 rfl rfl)
theorem dX21_plan_146 : decode cX21_plan 146 = .ok (.iconst (-1), 1) := dk_2 (dk_at dksX21_plan_6 6 rfl rfl)
theorem dX21_plan_147 : decode cX21_plan 147 = .ok (.ireturn, 1) := dk_172 (dk_at dksX21_plan_6 7 rfl rfl)
theorem dX21_plan_148 : decode cX21_plan 148 = .ok (.iconst 0, 1) := dk_3 (dk_at dksX21_plan_6 8 rfl rfl)
theorem dX21_plan_149 : decode cX21_plan 149 = .ok (.istore 4, 2) := dk_54 4 (dk_at dksX21_plan_6 9 rfl rfl)
theorem dX21_plan_151 : decode cX21_plan 151 = .ok (.iconst 0, 1) := dk_3 (dk_at dksX21_plan_6 11 rfl rfl)
theorem dX21_plan_152 : decode cX21_plan 152 = .ok (.istore 5, 2) := dk_54 5 (dk_at dksX21_plan_6 12 rfl rfl)
theorem dX21_plan_154 : decode cX21_plan 154 = .ok (.iload 5, 2) := dk_21 5 (dk_at dksX21_plan_6 14 rfl rfl)
theorem dX21_plan_156 : decode cX21_plan 156 = .ok (.iload_n 1, 1) := dk_27 (dk_at dksX21_plan_6 16 rfl rfl)
theorem dX21_plan_157 : decode cX21_plan 157 = .ok (.if_icmp .ge 38, 3) := dk_162 0 38 (dk_at dksX21_plan_6 17 rfl rfl)
theorem dX21_plan_160 : decode cX21_plan 160 = .ok (.aload_n 0, 1) := dk_42 (dk_at dksX21_plan_6 20 rfl rfl)
theorem dX21_plan_161 : decode cX21_plan 161 = .ok (.getfield 17, 3) := dk_180 0 17 (dk_at dksX21_plan_6 21 rfl rfl)
theorem dX21_plan_164 : decode cX21_plan 164 = .ok (.iload 5, 2) := dk_21 5 (dk_at dksX21_plan_7 0 rfl rfl)
theorem dX21_plan_166 : decode cX21_plan 166 = .ok (.aaload, 1) := dk_50 (dk_at dksX21_plan_7 2 rfl rfl)
theorem dX21_plan_167 : decode cX21_plan 167 = .ok (.getfield 61, 3) := dk_180 0 61 (dk_at dksX21_plan_7 3 rfl rfl)
theorem dX21_plan_170 : decode cX21_plan 170 = .ok (.ifCond .ne 19, 3) := dk_154 0 19 (dk_at dksX21_plan_7 6 rfl rfl)
theorem dX21_plan_173 : decode cX21_plan 173 = .ok (.aload_n 0, 1) := dk_42 (dk_at dksX21_plan_7 9 rfl rfl)
theorem dX21_plan_174 : decode cX21_plan 174 = .ok (.iload 5, 2) := dk_21 5 (dk_at dksX21_plan_7 10 rfl rfl)
theorem dX21_plan_176 : decode cX21_plan 176 = .ok (.aload_n 0, 1) := dk_42 (dk_at dksX21_plan_7 12 rfl rfl)
theorem dX21_plan_177 : decode cX21_plan 177 = .ok (.getfield 33, 3) := dk_180 0 33 (dk_at dksX21_plan_7 13 rfl rfl)
theorem dX21_plan_180 : decode cX21_plan 180 = .ok (.iload 5, 2) := dk_21 5 (dk_at dksX21_plan_7 16 rfl rfl)
theorem dX21_plan_182 : decode cX21_plan 182 = .ok (.iaload, 1) := dk_46 (dk_at dksX21_plan_7 18 rfl rfl)
theorem dX21_plan_183 : decode cX21_plan 183 = .ok (.invokevirtual 157, 3) := dk_182 0 157 (dk_at dksX21_plan_7 19 rfl rfl)
theorem dX21_plan_186 : decode cX21_plan 186 = .ok (.iinc 4 1, 3) := dk_132 4 1 (dk_at dksX21_plan_8 0 rfl rfl)
theorem dX21_plan_189 : decode cX21_plan 189 = .ok (.iinc 5 1, 3) := dk_132 5 1 (dk_at dksX21_plan_8 3 rfl rfl)
theorem dX21_plan_192 : decode cX21_plan 192 = .ok (.goto (-38), 3) := dk_167 255 218 (dk_at dksX21_plan_8 6 rfl rfl)
theorem dX21_plan_195 : decode cX21_plan 195 = .ok (.iload 4, 2) := dk_21 4 (dk_at dksX21_plan_8 9 rfl rfl)
theorem dX21_plan_197 : decode cX21_plan 197 = .ok (.ireturn, 1) := dk_172 (dk_at dksX21_plan_8 11 rfl rfl)
abbrev cX21_isFine : ByteArray := prog_6_method_25_code
def yX21_isFine : MethodName := ⟨RX21, "isFine", "(I)Z"⟩
def dkwX21_isFine_1 : List UInt8 := [154, 0, 22, 42, 42, 180, 0, 33, 27, 46, 4, 100, 182, 0, 137, 154, 0, 7, 4, 167, 0, 4, 3, 172]
abbrev dktX21_isFine_1 : List UInt8 := dkwX21_isFine_1 ++ []
def dkwX21_isFine_0 : List UInt8 := [42, 27, 182, 0, 130, 2, 160, 0, 38, 42, 42, 180, 0, 17, 27, 50, 180, 0, 96, 182, 0, 134]
abbrev dktX21_isFine_0 : List UInt8 := dkwX21_isFine_0 ++ dktX21_isFine_1
theorem dksX21_isFine_0 : cX21_isFine.data.toList.drop 0 = dktX21_isFine_0 := by decide +kernel
theorem dksX21_isFine_1 : cX21_isFine.data.toList.drop 22 = dktX21_isFine_1 := dk_seg dksX21_isFine_0 22 rfl rfl
theorem dX21_isFine_0 : decode cX21_isFine 0 = .ok (.aload_n 0, 1) := dk_42 (dk_at dksX21_isFine_0 0 rfl rfl)
theorem dX21_isFine_1 : decode cX21_isFine 1 = .ok (.iload_n 1, 1) := dk_27 (dk_at dksX21_isFine_0 1 rfl rfl)
theorem dX21_isFine_2 : decode cX21_isFine 2 = .ok (.invokevirtual 130, 3) := dk_182 0 130 (dk_at dksX21_isFine_0 2 rfl rfl)
theorem dX21_isFine_5 : decode cX21_isFine 5 = .ok (.iconst (-1), 1) := dk_2 (dk_at dksX21_isFine_0 5 rfl rfl)
theorem dX21_isFine_6 : decode cX21_isFine 6 = .ok (.if_icmp .ne 38, 3) := dk_160 0 38 (dk_at dksX21_isFine_0 6 rfl rfl)
theorem dX21_isFine_9 : decode cX21_isFine 9 = .ok (.aload_n 0, 1) := dk_42 (dk_at dksX21_isFine_0 9 rfl rfl)
theorem dX21_isFine_10 : decode cX21_isFine 10 = .ok (.aload_n 0, 1) := dk_42 (dk_at dksX21_isFine_0 10 rfl rfl)
theorem dX21_isFine_11 : decode cX21_isFine 11 = .ok (.getfield 17, 3) := dk_180 0 17 (dk_at dksX21_isFine_0 11 rfl rfl)
theorem dX21_isFine_14 : decode cX21_isFine 14 = .ok (.iload_n 1, 1) := dk_27 (dk_at dksX21_isFine_0 14 rfl rfl)
theorem dX21_isFine_15 : decode cX21_isFine 15 = .ok (.aaload, 1) := dk_50 (dk_at dksX21_isFine_0 15 rfl rfl)
theorem dX21_isFine_16 : decode cX21_isFine 16 = .ok (.getfield 96, 3) := dk_180 0 96 (dk_at dksX21_isFine_0 16 rfl rfl)
theorem dX21_isFine_19 : decode cX21_isFine 19 = .ok (.invokevirtual 134, 3) := dk_182 0 134 (dk_at dksX21_isFine_0 19 rfl rfl)
theorem dX21_isFine_22 : decode cX21_isFine 22 = .ok (.ifCond .ne 22, 3) := dk_154 0 22 (dk_at dksX21_isFine_1 0 rfl rfl)
theorem dX21_isFine_25 : decode cX21_isFine 25 = .ok (.aload_n 0, 1) := dk_42 (dk_at dksX21_isFine_1 3 rfl rfl)
theorem dX21_isFine_26 : decode cX21_isFine 26 = .ok (.aload_n 0, 1) := dk_42 (dk_at dksX21_isFine_1 4 rfl rfl)
theorem dX21_isFine_27 : decode cX21_isFine 27 = .ok (.getfield 33, 3) := dk_180 0 33 (dk_at dksX21_isFine_1 5 rfl rfl)
theorem dX21_isFine_30 : decode cX21_isFine 30 = .ok (.iload_n 1, 1) := dk_27 (dk_at dksX21_isFine_1 8 rfl rfl)
theorem dX21_isFine_31 : decode cX21_isFine 31 = .ok (.iaload, 1) := dk_46 (dk_at dksX21_isFine_1 9 rfl rfl)
theorem dX21_isFine_32 : decode cX21_isFine 32 = .ok (.iconst 1, 1) := dk_4 (dk_at dksX21_isFine_1 10 rfl rfl)
theorem dX21_isFine_33 : decode cX21_isFine 33 = .ok (.isub, 1) := dk_100 (dk_at dksX21_isFine_1 11 rfl rfl)
theorem dX21_isFine_34 : decode cX21_isFine 34 = .ok (.invokevirtual 137, 3) := dk_182 0 137 (dk_at dksX21_isFine_1 12 rfl rfl)
theorem dX21_isFine_37 : decode cX21_isFine 37 = .ok (.ifCond .ne 7, 3) := dk_154 0 7 (dk_at dksX21_isFine_1 15 rfl rfl)
theorem dX21_isFine_40 : decode cX21_isFine 40 = .ok (.iconst 1, 1) := dk_4 (dk_at dksX21_isFine_1 18 rfl rfl)
theorem dX21_isFine_41 : decode cX21_isFine 41 = .ok (.goto 4, 3) := dk_167 0 4 (dk_at dksX21_isFine_1 19 rfl rfl)
theorem dX21_isFine_44 : decode cX21_isFine 44 = .ok (.iconst 0, 1) := dk_3 (dk_at dksX21_isFine_1 22 rfl rfl)
theorem dX21_isFine_45 : decode cX21_isFine 45 = .ok (.ireturn, 1) := dk_172 (dk_at dksX21_isFine_1 23 rfl rfl)
abbrev cX21_backFrom : ByteArray := prog_6_method_24_code
def yX21_backFrom : MethodName := ⟨RX21, "backFrom", "(I)I"⟩
def dkwX21_backFrom_1 : List UInt8 := [167, 255, 237, 28, 172]
abbrev dktX21_backFrom_1 : List UInt8 := dkwX21_backFrom_1 ++ []
def dkwX21_backFrom_0 : List UInt8 := [27, 4, 100, 61, 28, 155, 0, 21, 42, 180, 0, 17, 28, 50, 180, 0, 61, 153, 0, 9, 132, 2, 255]
abbrev dktX21_backFrom_0 : List UInt8 := dkwX21_backFrom_0 ++ dktX21_backFrom_1
theorem dksX21_backFrom_0 : cX21_backFrom.data.toList.drop 0 = dktX21_backFrom_0 := by decide +kernel
theorem dksX21_backFrom_1 : cX21_backFrom.data.toList.drop 23 = dktX21_backFrom_1 := dk_seg dksX21_backFrom_0 23 rfl rfl
theorem dX21_backFrom_0 : decode cX21_backFrom 0 = .ok (.iload_n 1, 1) := dk_27 (dk_at dksX21_backFrom_0 0 rfl rfl)
theorem dX21_backFrom_1 : decode cX21_backFrom 1 = .ok (.iconst 1, 1) := dk_4 (dk_at dksX21_backFrom_0 1 rfl rfl)
theorem dX21_backFrom_2 : decode cX21_backFrom 2 = .ok (.isub, 1) := dk_100 (dk_at dksX21_backFrom_0 2 rfl rfl)
theorem dX21_backFrom_3 : decode cX21_backFrom 3 = .ok (.istore_n 2, 1) := dk_61 (dk_at dksX21_backFrom_0 3 rfl rfl)
theorem dX21_backFrom_4 : decode cX21_backFrom 4 = .ok (.iload_n 2, 1) := dk_28 (dk_at dksX21_backFrom_0 4 rfl rfl)
theorem dX21_backFrom_5 : decode cX21_backFrom 5 = .ok (.ifCond .lt 21, 3) := dk_155 0 21 (dk_at dksX21_backFrom_0 5 rfl rfl)
theorem dX21_backFrom_8 : decode cX21_backFrom 8 = .ok (.aload_n 0, 1) := dk_42 (dk_at dksX21_backFrom_0 8 rfl rfl)
theorem dX21_backFrom_9 : decode cX21_backFrom 9 = .ok (.getfield 17, 3) := dk_180 0 17 (dk_at dksX21_backFrom_0 9 rfl rfl)
theorem dX21_backFrom_12 : decode cX21_backFrom 12 = .ok (.iload_n 2, 1) := dk_28 (dk_at dksX21_backFrom_0 12 rfl rfl)
theorem dX21_backFrom_13 : decode cX21_backFrom 13 = .ok (.aaload, 1) := dk_50 (dk_at dksX21_backFrom_0 13 rfl rfl)
theorem dX21_backFrom_14 : decode cX21_backFrom 14 = .ok (.getfield 61, 3) := dk_180 0 61 (dk_at dksX21_backFrom_0 14 rfl rfl)
theorem dX21_backFrom_17 : decode cX21_backFrom 17 = .ok (.ifCond .eq 9, 3) := dk_153 0 9 (dk_at dksX21_backFrom_0 17 rfl rfl)
theorem dX21_backFrom_20 : decode cX21_backFrom 20 = .ok (.iinc 2 (-1), 3) := dk_132 2 255 (dk_at dksX21_backFrom_0 20 rfl rfl)
theorem dX21_backFrom_23 : decode cX21_backFrom 23 = .ok (.goto (-19), 3) := dk_167 255 237 (dk_at dksX21_backFrom_1 0 rfl rfl)
theorem dX21_backFrom_26 : decode cX21_backFrom 26 = .ok (.iload_n 2, 1) := dk_28 (dk_at dksX21_backFrom_1 3 rfl rfl)
theorem dX21_backFrom_27 : decode cX21_backFrom 27 = .ok (.ireturn, 1) := dk_172 (dk_at dksX21_backFrom_1 4 rfl rfl)
abbrev cX21_moves : ByteArray := prog_6_method_28_code
def yX21_moves : MethodName := ⟨RX21, "moves", "(II)I"⟩
def dkwX21_moves_5 : List UInt8 := [182, 0, 183, 42, 180, 0, 48, 172]
abbrev dktX21_moves_5 : List UInt8 := dkwX21_moves_5 ++ []
def dkwX21_moves_4 : List UInt8 := [172, 42, 42, 180, 0, 36, 21, 5, 51, 4, 100, 181, 0, 48, 42, 27, 28, 182, 0, 180, 42, 21, 4]
abbrev dktX21_moves_4 : List UInt8 := dkwX21_moves_4 ++ dktX21_moves_5
def dkwX21_moves_3 : List UInt8 := [182, 0, 140, 42, 182, 0, 173, 54, 4, 42, 27, 28, 182, 0, 177, 54, 5, 21, 5, 2, 160, 0, 5, 2]
abbrev dktX21_moves_3 : List UInt8 := dkwX21_moves_3 ++ dktX21_moves_4
def dkwX21_moves_2 : List UInt8 := [54, 4, 21, 4, 29, 162, 0, 17, 42, 180, 0, 36, 21, 4, 3, 84, 132, 4, 1, 167, 255, 239, 42]
abbrev dktX21_moves_2 : List UInt8 := dkwX21_moves_2 ++ dktX21_moves_3
def dkwX21_moves_1 : List UInt8 := [62, 3, 54, 4, 21, 4, 42, 180, 0, 58, 162, 0, 13, 29, 8, 104, 62, 132, 4, 1, 167, 255, 240, 3]
abbrev dktX21_moves_1 : List UInt8 := dkwX21_moves_1 ++ dktX21_moves_2
def dkwX21_moves_0 : List UInt8 := [42, 27, 182, 0, 147, 153, 0, 11, 42, 28, 182, 0, 150, 154, 0, 5, 2, 172, 42, 2, 181, 0, 48, 4]
abbrev dktX21_moves_0 : List UInt8 := dkwX21_moves_0 ++ dktX21_moves_1
theorem dksX21_moves_0 : cX21_moves.data.toList.drop 0 = dktX21_moves_0 := by decide +kernel
theorem dksX21_moves_1 : cX21_moves.data.toList.drop 24 = dktX21_moves_1 := dk_seg dksX21_moves_0 24 rfl rfl
theorem dksX21_moves_2 : cX21_moves.data.toList.drop 48 = dktX21_moves_2 := dk_seg dksX21_moves_1 24 rfl rfl
theorem dksX21_moves_3 : cX21_moves.data.toList.drop 71 = dktX21_moves_3 := dk_seg dksX21_moves_2 23 rfl rfl
theorem dksX21_moves_4 : cX21_moves.data.toList.drop 95 = dktX21_moves_4 := dk_seg dksX21_moves_3 24 rfl rfl
theorem dksX21_moves_5 : cX21_moves.data.toList.drop 118 = dktX21_moves_5 := dk_seg dksX21_moves_4 23 rfl rfl
theorem dX21_moves_0 : decode cX21_moves 0 = .ok (.aload_n 0, 1) := dk_42 (dk_at dksX21_moves_0 0 rfl rfl)
theorem dX21_moves_1 : decode cX21_moves 1 = .ok (.iload_n 1, 1) := dk_27 (dk_at dksX21_moves_0 1 rfl rfl)
theorem dX21_moves_2 : decode cX21_moves 2 = .ok (.invokevirtual 147, 3) := dk_182 0 147 (dk_at dksX21_moves_0 2 rfl rfl)
theorem dX21_moves_5 : decode cX21_moves 5 = .ok (.ifCond .eq 11, 3) := dk_153 0 11 (dk_at dksX21_moves_0 5 rfl rfl)
theorem dX21_moves_8 : decode cX21_moves 8 = .ok (.aload_n 0, 1) := dk_42 (dk_at dksX21_moves_0 8 rfl rfl)
theorem dX21_moves_9 : decode cX21_moves 9 = .ok (.iload_n 2, 1) := dk_28 (dk_at dksX21_moves_0 9 rfl rfl)
theorem dX21_moves_10 : decode cX21_moves 10 = .ok (.invokevirtual 150, 3) := dk_182 0 150 (dk_at dksX21_moves_0 10 rfl rfl)
theorem dX21_moves_13 : decode cX21_moves 13 = .ok (.ifCond .ne 5, 3) := dk_154 0 5 (dk_at dksX21_moves_0 13 rfl rfl)
theorem dX21_moves_16 : decode cX21_moves 16 = .ok (.iconst (-1), 1) := dk_2 (dk_at dksX21_moves_0 16 rfl rfl)
theorem dX21_moves_17 : decode cX21_moves 17 = .ok (.ireturn, 1) := dk_172 (dk_at dksX21_moves_0 17 rfl rfl)
theorem dX21_moves_18 : decode cX21_moves 18 = .ok (.aload_n 0, 1) := dk_42 (dk_at dksX21_moves_0 18 rfl rfl)
theorem dX21_moves_19 : decode cX21_moves 19 = .ok (.iconst (-1), 1) := dk_2 (dk_at dksX21_moves_0 19 rfl rfl)
theorem dX21_moves_20 : decode cX21_moves 20 = .ok (.putfield 48, 3) := dk_181 0 48 (dk_at dksX21_moves_0 20 rfl rfl)
theorem dX21_moves_23 : decode cX21_moves 23 = .ok (.iconst 1, 1) := dk_4 (dk_at dksX21_moves_0 23 rfl rfl)
theorem dX21_moves_24 : decode cX21_moves 24 = .ok (.istore_n 3, 1) := dk_62 (dk_at dksX21_moves_1 0 rfl rfl)
theorem dX21_moves_25 : decode cX21_moves 25 = .ok (.iconst 0, 1) := dk_3 (dk_at dksX21_moves_1 1 rfl rfl)
theorem dX21_moves_26 : decode cX21_moves 26 = .ok (.istore 4, 2) := dk_54 4 (dk_at dksX21_moves_1 2 rfl rfl)
theorem dX21_moves_28 : decode cX21_moves 28 = .ok (.iload 4, 2) := dk_21 4 (dk_at dksX21_moves_1 4 rfl rfl)
theorem dX21_moves_30 : decode cX21_moves 30 = .ok (.aload_n 0, 1) := dk_42 (dk_at dksX21_moves_1 6 rfl rfl)
theorem dX21_moves_31 : decode cX21_moves 31 = .ok (.getfield 58, 3) := dk_180 0 58 (dk_at dksX21_moves_1 7 rfl rfl)
theorem dX21_moves_34 : decode cX21_moves 34 = .ok (.if_icmp .ge 13, 3) := dk_162 0 13 (dk_at dksX21_moves_1 10 rfl rfl)
theorem dX21_moves_37 : decode cX21_moves 37 = .ok (.iload_n 3, 1) := dk_29 (dk_at dksX21_moves_1 13 rfl rfl)
theorem dX21_moves_38 : decode cX21_moves 38 = .ok (.iconst 5, 1) := dk_8 (dk_at dksX21_moves_1 14 rfl rfl)
theorem dX21_moves_39 : decode cX21_moves 39 = .ok (.imul, 1) := dk_104 (dk_at dksX21_moves_1 15 rfl rfl)
theorem dX21_moves_40 : decode cX21_moves 40 = .ok (.istore_n 3, 1) := dk_62 (dk_at dksX21_moves_1 16 rfl rfl)
theorem dX21_moves_41 : decode cX21_moves 41 = .ok (.iinc 4 1, 3) := dk_132 4 1 (dk_at dksX21_moves_1 17 rfl rfl)
theorem dX21_moves_44 : decode cX21_moves 44 = .ok (.goto (-16), 3) := dk_167 255 240 (dk_at dksX21_moves_1 20 rfl rfl)
theorem dX21_moves_47 : decode cX21_moves 47 = .ok (.iconst 0, 1) := dk_3 (dk_at dksX21_moves_1 23 rfl rfl)
theorem dX21_moves_48 : decode cX21_moves 48 = .ok (.istore 4, 2) := dk_54 4 (dk_at dksX21_moves_2 0 rfl rfl)
theorem dX21_moves_50 : decode cX21_moves 50 = .ok (.iload 4, 2) := dk_21 4 (dk_at dksX21_moves_2 2 rfl rfl)
theorem dX21_moves_52 : decode cX21_moves 52 = .ok (.iload_n 3, 1) := dk_29 (dk_at dksX21_moves_2 4 rfl rfl)
theorem dX21_moves_53 : decode cX21_moves 53 = .ok (.if_icmp .ge 17, 3) := dk_162 0 17 (dk_at dksX21_moves_2 5 rfl rfl)
theorem dX21_moves_56 : decode cX21_moves 56 = .ok (.aload_n 0, 1) := dk_42 (dk_at dksX21_moves_2 8 rfl rfl)
theorem dX21_moves_57 : decode cX21_moves 57 = .ok (.getfield 36, 3) := dk_180 0 36 (dk_at dksX21_moves_2 9 rfl rfl)
theorem dX21_moves_60 : decode cX21_moves 60 = .ok (.iload 4, 2) := dk_21 4 (dk_at dksX21_moves_2 12 rfl rfl)
theorem dX21_moves_62 : decode cX21_moves 62 = .ok (.iconst 0, 1) := dk_3 (dk_at dksX21_moves_2 14 rfl rfl)
theorem dX21_moves_63 : decode cX21_moves 63 = .ok (.bastore, 1) := dk_84 (dk_at dksX21_moves_2 15 rfl rfl)
theorem dX21_moves_64 : decode cX21_moves 64 = .ok (.iinc 4 1, 3) := dk_132 4 1 (dk_at dksX21_moves_2 16 rfl rfl)
theorem dX21_moves_67 : decode cX21_moves 67 = .ok (.goto (-17), 3) := dk_167 255 239 (dk_at dksX21_moves_2 19 rfl rfl)
theorem dX21_moves_70 : decode cX21_moves 70 = .ok (.aload_n 0, 1) := dk_42 (dk_at dksX21_moves_2 22 rfl rfl)
theorem dX21_moves_71 : decode cX21_moves 71 = .ok (.invokevirtual 140, 3) := dk_182 0 140 (dk_at dksX21_moves_3 0 rfl rfl)
theorem dX21_moves_74 : decode cX21_moves 74 = .ok (.aload_n 0, 1) := dk_42 (dk_at dksX21_moves_3 3 rfl rfl)
theorem dX21_moves_75 : decode cX21_moves 75 = .ok (.invokevirtual 173, 3) := dk_182 0 173 (dk_at dksX21_moves_3 4 rfl rfl)
theorem dX21_moves_78 : decode cX21_moves 78 = .ok (.istore 4, 2) := dk_54 4 (dk_at dksX21_moves_3 7 rfl rfl)
theorem dX21_moves_80 : decode cX21_moves 80 = .ok (.aload_n 0, 1) := dk_42 (dk_at dksX21_moves_3 9 rfl rfl)
theorem dX21_moves_81 : decode cX21_moves 81 = .ok (.iload_n 1, 1) := dk_27 (dk_at dksX21_moves_3 10 rfl rfl)
theorem dX21_moves_82 : decode cX21_moves 82 = .ok (.iload_n 2, 1) := dk_28 (dk_at dksX21_moves_3 11 rfl rfl)
theorem dX21_moves_83 : decode cX21_moves 83 = .ok (.invokevirtual 177, 3) := dk_182 0 177 (dk_at dksX21_moves_3 12 rfl rfl)
theorem dX21_moves_86 : decode cX21_moves 86 = .ok (.istore 5, 2) := dk_54 5 (dk_at dksX21_moves_3 15 rfl rfl)
theorem dX21_moves_88 : decode cX21_moves 88 = .ok (.iload 5, 2) := dk_21 5 (dk_at dksX21_moves_3 17 rfl rfl)
theorem dX21_moves_90 : decode cX21_moves 90 = .ok (.iconst (-1), 1) := dk_2 (dk_at dksX21_moves_3 19 rfl rfl)
theorem dX21_moves_91 : decode cX21_moves 91 = .ok (.if_icmp .ne 5, 3) := dk_160 0 5 (dk_at dksX21_moves_3 20 rfl rfl)
theorem dX21_moves_94 : decode cX21_moves 94 = .ok (.iconst (-1), 1) := dk_2 (dk_at dksX21_moves_3 23 rfl rfl)
theorem dX21_moves_95 : decode cX21_moves 95 = .ok (.ireturn, 1) := dk_172 (dk_at dksX21_moves_4 0 rfl rfl)
theorem dX21_moves_96 : decode cX21_moves 96 = .ok (.aload_n 0, 1) := dk_42 (dk_at dksX21_moves_4 1 rfl rfl)
theorem dX21_moves_97 : decode cX21_moves 97 = .ok (.aload_n 0, 1) := dk_42 (dk_at dksX21_moves_4 2 rfl rfl)
theorem dX21_moves_98 : decode cX21_moves 98 = .ok (.getfield 36, 3) := dk_180 0 36 (dk_at dksX21_moves_4 3 rfl rfl)
theorem dX21_moves_101 : decode cX21_moves 101 = .ok (.iload 5, 2) := dk_21 5 (dk_at dksX21_moves_4 6 rfl rfl)
theorem dX21_moves_103 : decode cX21_moves 103 = .ok (.baload, 1) := dk_51 (dk_at dksX21_moves_4 8 rfl rfl)
theorem dX21_moves_104 : decode cX21_moves 104 = .ok (.iconst 1, 1) := dk_4 (dk_at dksX21_moves_4 9 rfl rfl)
theorem dX21_moves_105 : decode cX21_moves 105 = .ok (.isub, 1) := dk_100 (dk_at dksX21_moves_4 10 rfl rfl)
theorem dX21_moves_106 : decode cX21_moves 106 = .ok (.putfield 48, 3) := dk_181 0 48 (dk_at dksX21_moves_4 11 rfl rfl)
theorem dX21_moves_109 : decode cX21_moves 109 = .ok (.aload_n 0, 1) := dk_42 (dk_at dksX21_moves_4 14 rfl rfl)
theorem dX21_moves_110 : decode cX21_moves 110 = .ok (.iload_n 1, 1) := dk_27 (dk_at dksX21_moves_4 15 rfl rfl)
theorem dX21_moves_111 : decode cX21_moves 111 = .ok (.iload_n 2, 1) := dk_28 (dk_at dksX21_moves_4 16 rfl rfl)
theorem dX21_moves_112 : decode cX21_moves 112 = .ok (.invokevirtual 180, 3) := dk_182 0 180 (dk_at dksX21_moves_4 17 rfl rfl)
theorem dX21_moves_115 : decode cX21_moves 115 = .ok (.aload_n 0, 1) := dk_42 (dk_at dksX21_moves_4 20 rfl rfl)
theorem dX21_moves_116 : decode cX21_moves 116 = .ok (.iload 4, 2) := dk_21 4 (dk_at dksX21_moves_4 21 rfl rfl)
theorem dX21_moves_118 : decode cX21_moves 118 = .ok (.invokevirtual 183, 3) := dk_182 0 183 (dk_at dksX21_moves_5 0 rfl rfl)
theorem dX21_moves_121 : decode cX21_moves 121 = .ok (.aload_n 0, 1) := dk_42 (dk_at dksX21_moves_5 3 rfl rfl)
theorem dX21_moves_122 : decode cX21_moves 122 = .ok (.getfield 48, 3) := dk_180 0 48 (dk_at dksX21_moves_5 4 rfl rfl)
theorem dX21_moves_125 : decode cX21_moves 125 = .ok (.ireturn, 1) := dk_172 (dk_at dksX21_moves_5 7 rfl rfl)
abbrev cX21_encode : ByteArray := prog_6_method_26_code
def yX21_encode : MethodName := ⟨RX21, "encode", "()I"⟩
def dkwX21_encode_1 : List UInt8 := [132, 2, 255, 167, 255, 238, 27, 172]
abbrev dktX21_encode_1 : List UInt8 := dkwX21_encode_1 ++ []
def dkwX21_encode_0 : List UInt8 := [3, 60, 42, 180, 0, 58, 4, 100, 61, 28, 155, 0, 20, 27, 8, 104, 42, 180, 0, 33, 28, 46, 96, 60]
abbrev dktX21_encode_0 : List UInt8 := dkwX21_encode_0 ++ dktX21_encode_1
theorem dksX21_encode_0 : cX21_encode.data.toList.drop 0 = dktX21_encode_0 := by decide +kernel
theorem dksX21_encode_1 : cX21_encode.data.toList.drop 24 = dktX21_encode_1 := dk_seg dksX21_encode_0 24 rfl rfl
theorem dX21_encode_0 : decode cX21_encode 0 = .ok (.iconst 0, 1) := dk_3 (dk_at dksX21_encode_0 0 rfl rfl)
theorem dX21_encode_1 : decode cX21_encode 1 = .ok (.istore_n 1, 1) := dk_60 (dk_at dksX21_encode_0 1 rfl rfl)
theorem dX21_encode_2 : decode cX21_encode 2 = .ok (.aload_n 0, 1) := dk_42 (dk_at dksX21_encode_0 2 rfl rfl)
theorem dX21_encode_3 : decode cX21_encode 3 = .ok (.getfield 58, 3) := dk_180 0 58 (dk_at dksX21_encode_0 3 rfl rfl)
theorem dX21_encode_6 : decode cX21_encode 6 = .ok (.iconst 1, 1) := dk_4 (dk_at dksX21_encode_0 6 rfl rfl)
theorem dX21_encode_7 : decode cX21_encode 7 = .ok (.isub, 1) := dk_100 (dk_at dksX21_encode_0 7 rfl rfl)
theorem dX21_encode_8 : decode cX21_encode 8 = .ok (.istore_n 2, 1) := dk_61 (dk_at dksX21_encode_0 8 rfl rfl)
theorem dX21_encode_9 : decode cX21_encode 9 = .ok (.iload_n 2, 1) := dk_28 (dk_at dksX21_encode_0 9 rfl rfl)
theorem dX21_encode_10 : decode cX21_encode 10 = .ok (.ifCond .lt 20, 3) := dk_155 0 20 (dk_at dksX21_encode_0 10 rfl rfl)
theorem dX21_encode_13 : decode cX21_encode 13 = .ok (.iload_n 1, 1) := dk_27 (dk_at dksX21_encode_0 13 rfl rfl)
theorem dX21_encode_14 : decode cX21_encode 14 = .ok (.iconst 5, 1) := dk_8 (dk_at dksX21_encode_0 14 rfl rfl)
theorem dX21_encode_15 : decode cX21_encode 15 = .ok (.imul, 1) := dk_104 (dk_at dksX21_encode_0 15 rfl rfl)
theorem dX21_encode_16 : decode cX21_encode 16 = .ok (.aload_n 0, 1) := dk_42 (dk_at dksX21_encode_0 16 rfl rfl)
theorem dX21_encode_17 : decode cX21_encode 17 = .ok (.getfield 33, 3) := dk_180 0 33 (dk_at dksX21_encode_0 17 rfl rfl)
theorem dX21_encode_20 : decode cX21_encode 20 = .ok (.iload_n 2, 1) := dk_28 (dk_at dksX21_encode_0 20 rfl rfl)
theorem dX21_encode_21 : decode cX21_encode 21 = .ok (.iaload, 1) := dk_46 (dk_at dksX21_encode_0 21 rfl rfl)
theorem dX21_encode_22 : decode cX21_encode 22 = .ok (.iadd, 1) := dk_96 (dk_at dksX21_encode_0 22 rfl rfl)
theorem dX21_encode_23 : decode cX21_encode 23 = .ok (.istore_n 1, 1) := dk_60 (dk_at dksX21_encode_0 23 rfl rfl)
theorem dX21_encode_24 : decode cX21_encode 24 = .ok (.iinc 2 (-1), 3) := dk_132 2 255 (dk_at dksX21_encode_1 0 rfl rfl)
theorem dX21_encode_27 : decode cX21_encode 27 = .ok (.goto (-18), 3) := dk_167 255 238 (dk_at dksX21_encode_1 3 rfl rfl)
theorem dX21_encode_30 : decode cX21_encode 30 = .ok (.iload_n 1, 1) := dk_27 (dk_at dksX21_encode_1 6 rfl rfl)
theorem dX21_encode_31 : decode cX21_encode 31 = .ok (.ireturn, 1) := dk_172 (dk_at dksX21_encode_1 7 rfl rfl)
abbrev cX21_spread : ByteArray := prog_6_method_29_code
def yX21_spread : MethodName := ⟨RX21, "spread", "(II)I"⟩
def dkwX21_spread_7 : List UInt8 := [21, 6, 79, 132, 5, 1, 167, 255, 143, 132, 3, 1, 167, 255, 97, 2, 172]
abbrev dktX21_spread_7 : List UInt8 := dkwX21_spread_7 ++ []
def dkwX21_spread_6 : List UInt8 := [180, 0, 36, 21, 4, 51, 4, 96, 182, 0, 190, 132, 7, 1, 167, 255, 179, 42, 180, 0, 33, 21, 5]
abbrev dktX21_spread_6 : List UInt8 := dkwX21_spread_6 ++ dktX21_spread_7
def dkwX21_spread_5 : List UInt8 := [180, 0, 36, 42, 182, 0, 173, 51, 154, 0, 27, 42, 182, 0, 143, 153, 0, 20, 42, 42, 182, 0, 173, 42]
abbrev dktX21_spread_5 : List UInt8 := dkwX21_spread_5 ++ dktX21_spread_6
def dkwX21_spread_4 : List UInt8 := [180, 0, 61, 154, 0, 61, 42, 180, 0, 33, 21, 5, 21, 7, 79, 21, 7, 21, 6, 159, 0, 39, 42]
abbrev dktX21_spread_4 : List UInt8 := dkwX21_spread_4 ++ dktX21_spread_5
def dkwX21_spread_3 : List UInt8 := [46, 54, 6, 3, 54, 7, 21, 7, 42, 180, 0, 55, 163, 0, 74, 42, 180, 0, 17, 21, 5, 50]
abbrev dktX21_spread_3 : List UInt8 := dkwX21_spread_3 ++ dktX21_spread_4
def dkwX21_spread_2 : List UInt8 := [160, 0, 6, 21, 4, 172, 3, 54, 5, 21, 5, 42, 180, 0, 58, 162, 0, 110, 42, 180, 0, 33, 21, 5]
abbrev dktX21_spread_2 : List UInt8 := dkwX21_spread_2 ++ dktX21_spread_3
def dkwX21_spread_1 : List UInt8 := [42, 180, 0, 39, 29, 53, 54, 4, 42, 21, 4, 182, 0, 193, 42, 180, 0, 33, 27, 46, 28, 4, 96]
abbrev dktX21_spread_1 : List UInt8 := dkwX21_spread_1 ++ dktX21_spread_2
def dkwX21_spread_0 : List UInt8 := [42, 3, 181, 0, 187, 42, 42, 182, 0, 173, 4, 182, 0, 190, 3, 62, 29, 42, 180, 0, 187, 162, 0, 157]
abbrev dktX21_spread_0 : List UInt8 := dkwX21_spread_0 ++ dktX21_spread_1
theorem dksX21_spread_0 : cX21_spread.data.toList.drop 0 = dktX21_spread_0 := by decide +kernel
theorem dksX21_spread_1 : cX21_spread.data.toList.drop 24 = dktX21_spread_1 := dk_seg dksX21_spread_0 24 rfl rfl
theorem dksX21_spread_2 : cX21_spread.data.toList.drop 47 = dktX21_spread_2 := dk_seg dksX21_spread_1 23 rfl rfl
theorem dksX21_spread_3 : cX21_spread.data.toList.drop 71 = dktX21_spread_3 := dk_seg dksX21_spread_2 24 rfl rfl
theorem dksX21_spread_4 : cX21_spread.data.toList.drop 93 = dktX21_spread_4 := dk_seg dksX21_spread_3 22 rfl rfl
theorem dksX21_spread_5 : cX21_spread.data.toList.drop 116 = dktX21_spread_5 := dk_seg dksX21_spread_4 23 rfl rfl
theorem dksX21_spread_6 : cX21_spread.data.toList.drop 140 = dktX21_spread_6 := dk_seg dksX21_spread_5 24 rfl rfl
theorem dksX21_spread_7 : cX21_spread.data.toList.drop 163 = dktX21_spread_7 := dk_seg dksX21_spread_6 23 rfl rfl
theorem dX21_spread_0 : decode cX21_spread 0 = .ok (.aload_n 0, 1) := dk_42 (dk_at dksX21_spread_0 0 rfl rfl)
theorem dX21_spread_1 : decode cX21_spread 1 = .ok (.iconst 0, 1) := dk_3 (dk_at dksX21_spread_0 1 rfl rfl)
theorem dX21_spread_2 : decode cX21_spread 2 = .ok (.putfield 187, 3) := dk_181 0 187 (dk_at dksX21_spread_0 2 rfl rfl)
theorem dX21_spread_5 : decode cX21_spread 5 = .ok (.aload_n 0, 1) := dk_42 (dk_at dksX21_spread_0 5 rfl rfl)
theorem dX21_spread_6 : decode cX21_spread 6 = .ok (.aload_n 0, 1) := dk_42 (dk_at dksX21_spread_0 6 rfl rfl)
theorem dX21_spread_7 : decode cX21_spread 7 = .ok (.invokevirtual 173, 3) := dk_182 0 173 (dk_at dksX21_spread_0 7 rfl rfl)
theorem dX21_spread_10 : decode cX21_spread 10 = .ok (.iconst 1, 1) := dk_4 (dk_at dksX21_spread_0 10 rfl rfl)
theorem dX21_spread_11 : decode cX21_spread 11 = .ok (.invokevirtual 190, 3) := dk_182 0 190 (dk_at dksX21_spread_0 11 rfl rfl)
theorem dX21_spread_14 : decode cX21_spread 14 = .ok (.iconst 0, 1) := dk_3 (dk_at dksX21_spread_0 14 rfl rfl)
theorem dX21_spread_15 : decode cX21_spread 15 = .ok (.istore_n 3, 1) := dk_62 (dk_at dksX21_spread_0 15 rfl rfl)
theorem dX21_spread_16 : decode cX21_spread 16 = .ok (.iload_n 3, 1) := dk_29 (dk_at dksX21_spread_0 16 rfl rfl)
theorem dX21_spread_17 : decode cX21_spread 17 = .ok (.aload_n 0, 1) := dk_42 (dk_at dksX21_spread_0 17 rfl rfl)
theorem dX21_spread_18 : decode cX21_spread 18 = .ok (.getfield 187, 3) := dk_180 0 187 (dk_at dksX21_spread_0 18 rfl rfl)
theorem dX21_spread_21 : decode cX21_spread 21 = .ok (.if_icmp .ge 157, 3) := dk_162 0 157 (dk_at dksX21_spread_0 21 rfl rfl)
theorem dX21_spread_24 : decode cX21_spread 24 = .ok (.aload_n 0, 1) := dk_42 (dk_at dksX21_spread_1 0 rfl rfl)
theorem dX21_spread_25 : decode cX21_spread 25 = .ok (.getfield 39, 3) := dk_180 0 39 (dk_at dksX21_spread_1 1 rfl rfl)
theorem dX21_spread_28 : decode cX21_spread 28 = .ok (.iload_n 3, 1) := dk_29 (dk_at dksX21_spread_1 4 rfl rfl)
theorem dX21_spread_29 : decode cX21_spread 29 = .ok (.saload, 1) := dk_53 (dk_at dksX21_spread_1 5 rfl rfl)
theorem dX21_spread_30 : decode cX21_spread 30 = .ok (.istore 4, 2) := dk_54 4 (dk_at dksX21_spread_1 6 rfl rfl)
theorem dX21_spread_32 : decode cX21_spread 32 = .ok (.aload_n 0, 1) := dk_42 (dk_at dksX21_spread_1 8 rfl rfl)
theorem dX21_spread_33 : decode cX21_spread 33 = .ok (.iload 4, 2) := dk_21 4 (dk_at dksX21_spread_1 9 rfl rfl)
theorem dX21_spread_35 : decode cX21_spread 35 = .ok (.invokevirtual 193, 3) := dk_182 0 193 (dk_at dksX21_spread_1 11 rfl rfl)
theorem dX21_spread_38 : decode cX21_spread 38 = .ok (.aload_n 0, 1) := dk_42 (dk_at dksX21_spread_1 14 rfl rfl)
theorem dX21_spread_39 : decode cX21_spread 39 = .ok (.getfield 33, 3) := dk_180 0 33 (dk_at dksX21_spread_1 15 rfl rfl)
theorem dX21_spread_42 : decode cX21_spread 42 = .ok (.iload_n 1, 1) := dk_27 (dk_at dksX21_spread_1 18 rfl rfl)
theorem dX21_spread_43 : decode cX21_spread 43 = .ok (.iaload, 1) := dk_46 (dk_at dksX21_spread_1 19 rfl rfl)
theorem dX21_spread_44 : decode cX21_spread 44 = .ok (.iload_n 2, 1) := dk_28 (dk_at dksX21_spread_1 20 rfl rfl)
theorem dX21_spread_45 : decode cX21_spread 45 = .ok (.iconst 1, 1) := dk_4 (dk_at dksX21_spread_1 21 rfl rfl)
theorem dX21_spread_46 : decode cX21_spread 46 = .ok (.iadd, 1) := dk_96 (dk_at dksX21_spread_1 22 rfl rfl)
theorem dX21_spread_47 : decode cX21_spread 47 = .ok (.if_icmp .ne 6, 3) := dk_160 0 6 (dk_at dksX21_spread_2 0 rfl rfl)
theorem dX21_spread_50 : decode cX21_spread 50 = .ok (.iload 4, 2) := dk_21 4 (dk_at dksX21_spread_2 3 rfl rfl)
theorem dX21_spread_52 : decode cX21_spread 52 = .ok (.ireturn, 1) := dk_172 (dk_at dksX21_spread_2 5 rfl rfl)
theorem dX21_spread_53 : decode cX21_spread 53 = .ok (.iconst 0, 1) := dk_3 (dk_at dksX21_spread_2 6 rfl rfl)
theorem dX21_spread_54 : decode cX21_spread 54 = .ok (.istore 5, 2) := dk_54 5 (dk_at dksX21_spread_2 7 rfl rfl)
theorem dX21_spread_56 : decode cX21_spread 56 = .ok (.iload 5, 2) := dk_21 5 (dk_at dksX21_spread_2 9 rfl rfl)
theorem dX21_spread_58 : decode cX21_spread 58 = .ok (.aload_n 0, 1) := dk_42 (dk_at dksX21_spread_2 11 rfl rfl)
theorem dX21_spread_59 : decode cX21_spread 59 = .ok (.getfield 58, 3) := dk_180 0 58 (dk_at dksX21_spread_2 12 rfl rfl)
theorem dX21_spread_62 : decode cX21_spread 62 = .ok (.if_icmp .ge 110, 3) := dk_162 0 110 (dk_at dksX21_spread_2 15 rfl rfl)
theorem dX21_spread_65 : decode cX21_spread 65 = .ok (.aload_n 0, 1) := dk_42 (dk_at dksX21_spread_2 18 rfl rfl)
theorem dX21_spread_66 : decode cX21_spread 66 = .ok (.getfield 33, 3) := dk_180 0 33 (dk_at dksX21_spread_2 19 rfl rfl)
theorem dX21_spread_69 : decode cX21_spread 69 = .ok (.iload 5, 2) := dk_21 5 (dk_at dksX21_spread_2 22 rfl rfl)
theorem dX21_spread_71 : decode cX21_spread 71 = .ok (.iaload, 1) := dk_46 (dk_at dksX21_spread_3 0 rfl rfl)
theorem dX21_spread_72 : decode cX21_spread 72 = .ok (.istore 6, 2) := dk_54 6 (dk_at dksX21_spread_3 1 rfl rfl)
theorem dX21_spread_74 : decode cX21_spread 74 = .ok (.iconst 0, 1) := dk_3 (dk_at dksX21_spread_3 3 rfl rfl)
theorem dX21_spread_75 : decode cX21_spread 75 = .ok (.istore 7, 2) := dk_54 7 (dk_at dksX21_spread_3 4 rfl rfl)
theorem dX21_spread_77 : decode cX21_spread 77 = .ok (.iload 7, 2) := dk_21 7 (dk_at dksX21_spread_3 6 rfl rfl)
theorem dX21_spread_79 : decode cX21_spread 79 = .ok (.aload_n 0, 1) := dk_42 (dk_at dksX21_spread_3 8 rfl rfl)
theorem dX21_spread_80 : decode cX21_spread 80 = .ok (.getfield 55, 3) := dk_180 0 55 (dk_at dksX21_spread_3 9 rfl rfl)
theorem dX21_spread_83 : decode cX21_spread 83 = .ok (.if_icmp .gt 74, 3) := dk_163 0 74 (dk_at dksX21_spread_3 12 rfl rfl)
theorem dX21_spread_86 : decode cX21_spread 86 = .ok (.aload_n 0, 1) := dk_42 (dk_at dksX21_spread_3 15 rfl rfl)
theorem dX21_spread_87 : decode cX21_spread 87 = .ok (.getfield 17, 3) := dk_180 0 17 (dk_at dksX21_spread_3 16 rfl rfl)
theorem dX21_spread_90 : decode cX21_spread 90 = .ok (.iload 5, 2) := dk_21 5 (dk_at dksX21_spread_3 19 rfl rfl)
theorem dX21_spread_92 : decode cX21_spread 92 = .ok (.aaload, 1) := dk_50 (dk_at dksX21_spread_3 21 rfl rfl)
theorem dX21_spread_93 : decode cX21_spread 93 = .ok (.getfield 61, 3) := dk_180 0 61 (dk_at dksX21_spread_4 0 rfl rfl)
theorem dX21_spread_96 : decode cX21_spread 96 = .ok (.ifCond .ne 61, 3) := dk_154 0 61 (dk_at dksX21_spread_4 3 rfl rfl)
theorem dX21_spread_99 : decode cX21_spread 99 = .ok (.aload_n 0, 1) := dk_42 (dk_at dksX21_spread_4 6 rfl rfl)
theorem dX21_spread_100 : decode cX21_spread 100 = .ok (.getfield 33, 3) := dk_180 0 33 (dk_at dksX21_spread_4 7 rfl rfl)
theorem dX21_spread_103 : decode cX21_spread 103 = .ok (.iload 5, 2) := dk_21 5 (dk_at dksX21_spread_4 10 rfl rfl)
theorem dX21_spread_105 : decode cX21_spread 105 = .ok (.iload 7, 2) := dk_21 7 (dk_at dksX21_spread_4 12 rfl rfl)
theorem dX21_spread_107 : decode cX21_spread 107 = .ok (.iastore, 1) := dk_79 (dk_at dksX21_spread_4 14 rfl rfl)
theorem dX21_spread_108 : decode cX21_spread 108 = .ok (.iload 7, 2) := dk_21 7 (dk_at dksX21_spread_4 15 rfl rfl)
theorem dX21_spread_110 : decode cX21_spread 110 = .ok (.iload 6, 2) := dk_21 6 (dk_at dksX21_spread_4 17 rfl rfl)
theorem dX21_spread_112 : decode cX21_spread 112 = .ok (.if_icmp .eq 39, 3) := dk_159 0 39 (dk_at dksX21_spread_4 19 rfl rfl)
theorem dX21_spread_115 : decode cX21_spread 115 = .ok (.aload_n 0, 1) := dk_42 (dk_at dksX21_spread_4 22 rfl rfl)
theorem dX21_spread_116 : decode cX21_spread 116 = .ok (.getfield 36, 3) := dk_180 0 36 (dk_at dksX21_spread_5 0 rfl rfl)
theorem dX21_spread_119 : decode cX21_spread 119 = .ok (.aload_n 0, 1) := dk_42 (dk_at dksX21_spread_5 3 rfl rfl)
theorem dX21_spread_120 : decode cX21_spread 120 = .ok (.invokevirtual 173, 3) := dk_182 0 173 (dk_at dksX21_spread_5 4 rfl rfl)
theorem dX21_spread_123 : decode cX21_spread 123 = .ok (.baload, 1) := dk_51 (dk_at dksX21_spread_5 7 rfl rfl)
theorem dX21_spread_124 : decode cX21_spread 124 = .ok (.ifCond .ne 27, 3) := dk_154 0 27 (dk_at dksX21_spread_5 8 rfl rfl)
theorem dX21_spread_127 : decode cX21_spread 127 = .ok (.aload_n 0, 1) := dk_42 (dk_at dksX21_spread_5 11 rfl rfl)
theorem dX21_spread_128 : decode cX21_spread 128 = .ok (.invokevirtual 143, 3) := dk_182 0 143 (dk_at dksX21_spread_5 12 rfl rfl)
theorem dX21_spread_131 : decode cX21_spread 131 = .ok (.ifCond .eq 20, 3) := dk_153 0 20 (dk_at dksX21_spread_5 15 rfl rfl)
theorem dX21_spread_134 : decode cX21_spread 134 = .ok (.aload_n 0, 1) := dk_42 (dk_at dksX21_spread_5 18 rfl rfl)
theorem dX21_spread_135 : decode cX21_spread 135 = .ok (.aload_n 0, 1) := dk_42 (dk_at dksX21_spread_5 19 rfl rfl)
theorem dX21_spread_136 : decode cX21_spread 136 = .ok (.invokevirtual 173, 3) := dk_182 0 173 (dk_at dksX21_spread_5 20 rfl rfl)
theorem dX21_spread_139 : decode cX21_spread 139 = .ok (.aload_n 0, 1) := dk_42 (dk_at dksX21_spread_5 23 rfl rfl)
theorem dX21_spread_140 : decode cX21_spread 140 = .ok (.getfield 36, 3) := dk_180 0 36 (dk_at dksX21_spread_6 0 rfl rfl)
theorem dX21_spread_143 : decode cX21_spread 143 = .ok (.iload 4, 2) := dk_21 4 (dk_at dksX21_spread_6 3 rfl rfl)
theorem dX21_spread_145 : decode cX21_spread 145 = .ok (.baload, 1) := dk_51 (dk_at dksX21_spread_6 5 rfl rfl)
theorem dX21_spread_146 : decode cX21_spread 146 = .ok (.iconst 1, 1) := dk_4 (dk_at dksX21_spread_6 6 rfl rfl)
theorem dX21_spread_147 : decode cX21_spread 147 = .ok (.iadd, 1) := dk_96 (dk_at dksX21_spread_6 7 rfl rfl)
theorem dX21_spread_148 : decode cX21_spread 148 = .ok (.invokevirtual 190, 3) := dk_182 0 190 (dk_at dksX21_spread_6 8 rfl rfl)
theorem dX21_spread_151 : decode cX21_spread 151 = .ok (.iinc 7 1, 3) := dk_132 7 1 (dk_at dksX21_spread_6 11 rfl rfl)
theorem dX21_spread_154 : decode cX21_spread 154 = .ok (.goto (-77), 3) := dk_167 255 179 (dk_at dksX21_spread_6 14 rfl rfl)
theorem dX21_spread_157 : decode cX21_spread 157 = .ok (.aload_n 0, 1) := dk_42 (dk_at dksX21_spread_6 17 rfl rfl)
theorem dX21_spread_158 : decode cX21_spread 158 = .ok (.getfield 33, 3) := dk_180 0 33 (dk_at dksX21_spread_6 18 rfl rfl)
theorem dX21_spread_161 : decode cX21_spread 161 = .ok (.iload 5, 2) := dk_21 5 (dk_at dksX21_spread_6 21 rfl rfl)
theorem dX21_spread_163 : decode cX21_spread 163 = .ok (.iload 6, 2) := dk_21 6 (dk_at dksX21_spread_7 0 rfl rfl)
theorem dX21_spread_165 : decode cX21_spread 165 = .ok (.iastore, 1) := dk_79 (dk_at dksX21_spread_7 2 rfl rfl)
theorem dX21_spread_166 : decode cX21_spread 166 = .ok (.iinc 5 1, 3) := dk_132 5 1 (dk_at dksX21_spread_7 3 rfl rfl)
theorem dX21_spread_169 : decode cX21_spread 169 = .ok (.goto (-113), 3) := dk_167 255 143 (dk_at dksX21_spread_7 6 rfl rfl)
theorem dX21_spread_172 : decode cX21_spread 172 = .ok (.iinc 3 1, 3) := dk_132 3 1 (dk_at dksX21_spread_7 9 rfl rfl)
theorem dX21_spread_175 : decode cX21_spread 175 = .ok (.goto (-159), 3) := dk_167 255 97 (dk_at dksX21_spread_7 12 rfl rfl)
theorem dX21_spread_178 : decode cX21_spread 178 = .ok (.iconst (-1), 1) := dk_2 (dk_at dksX21_spread_7 15 rfl rfl)
theorem dX21_spread_179 : decode cX21_spread 179 = .ok (.ireturn, 1) := dk_172 (dk_at dksX21_spread_7 16 rfl rfl)
abbrev cX21_meet : ByteArray := prog_6_method_30_code
def yX21_meet : MethodName := ⟨RX21, "meet", "(II)V"⟩
def dkwX21_meet_1 : List UInt8 := [147, 86, 177]
abbrev dktX21_meet_1 : List UInt8 := dkwX21_meet_1 ++ []
def dkwX21_meet_0 : List UInt8 := [42, 180, 0, 36, 27, 28, 145, 84, 42, 180, 0, 39, 42, 89, 180, 0, 187, 90, 4, 96, 181, 0, 187, 27]
abbrev dktX21_meet_0 : List UInt8 := dkwX21_meet_0 ++ dktX21_meet_1
theorem dksX21_meet_0 : cX21_meet.data.toList.drop 0 = dktX21_meet_0 := by decide +kernel
theorem dksX21_meet_1 : cX21_meet.data.toList.drop 24 = dktX21_meet_1 := dk_seg dksX21_meet_0 24 rfl rfl
theorem dX21_meet_0 : decode cX21_meet 0 = .ok (.aload_n 0, 1) := dk_42 (dk_at dksX21_meet_0 0 rfl rfl)
theorem dX21_meet_1 : decode cX21_meet 1 = .ok (.getfield 36, 3) := dk_180 0 36 (dk_at dksX21_meet_0 1 rfl rfl)
theorem dX21_meet_4 : decode cX21_meet 4 = .ok (.iload_n 1, 1) := dk_27 (dk_at dksX21_meet_0 4 rfl rfl)
theorem dX21_meet_5 : decode cX21_meet 5 = .ok (.iload_n 2, 1) := dk_28 (dk_at dksX21_meet_0 5 rfl rfl)
theorem dX21_meet_6 : decode cX21_meet 6 = .ok (.i2b, 1) := dk_145 (dk_at dksX21_meet_0 6 rfl rfl)
theorem dX21_meet_7 : decode cX21_meet 7 = .ok (.bastore, 1) := dk_84 (dk_at dksX21_meet_0 7 rfl rfl)
theorem dX21_meet_8 : decode cX21_meet 8 = .ok (.aload_n 0, 1) := dk_42 (dk_at dksX21_meet_0 8 rfl rfl)
theorem dX21_meet_9 : decode cX21_meet 9 = .ok (.getfield 39, 3) := dk_180 0 39 (dk_at dksX21_meet_0 9 rfl rfl)
theorem dX21_meet_12 : decode cX21_meet 12 = .ok (.aload_n 0, 1) := dk_42 (dk_at dksX21_meet_0 12 rfl rfl)
theorem dX21_meet_13 : decode cX21_meet 13 = .ok (.dup, 1) := dk_89 (dk_at dksX21_meet_0 13 rfl rfl)
theorem dX21_meet_14 : decode cX21_meet 14 = .ok (.getfield 187, 3) := dk_180 0 187 (dk_at dksX21_meet_0 14 rfl rfl)
theorem dX21_meet_17 : decode cX21_meet 17 = .ok (.dup_x1, 1) := dk_90 (dk_at dksX21_meet_0 17 rfl rfl)
theorem dX21_meet_18 : decode cX21_meet 18 = .ok (.iconst 1, 1) := dk_4 (dk_at dksX21_meet_0 18 rfl rfl)
theorem dX21_meet_19 : decode cX21_meet 19 = .ok (.iadd, 1) := dk_96 (dk_at dksX21_meet_0 19 rfl rfl)
theorem dX21_meet_20 : decode cX21_meet 20 = .ok (.putfield 187, 3) := dk_181 0 187 (dk_at dksX21_meet_0 20 rfl rfl)
theorem dX21_meet_23 : decode cX21_meet 23 = .ok (.iload_n 1, 1) := dk_27 (dk_at dksX21_meet_0 23 rfl rfl)
theorem dX21_meet_24 : decode cX21_meet 24 = .ok (.i2s, 1) := dk_147 (dk_at dksX21_meet_1 0 rfl rfl)
theorem dX21_meet_25 : decode cX21_meet 25 = .ok (.sastore, 1) := dk_86 (dk_at dksX21_meet_1 1 rfl rfl)
theorem dX21_meet_26 : decode cX21_meet 26 = .ok (.return_, 1) := dk_177 (dk_at dksX21_meet_1 2 rfl rfl)
abbrev cX21_decode : ByteArray := prog_6_method_27_code
def yX21_decode : MethodName := ⟨RX21, "decode", "(I)V"⟩
def dkwX21_decode_1 : List UInt8 := [61, 132, 3, 1, 167, 255, 232, 177]
abbrev dktX21_decode_1 : List UInt8 := dkwX21_decode_1 ++ []
def dkwX21_decode_0 : List UInt8 := [27, 61, 3, 62, 29, 42, 180, 0, 58, 162, 0, 22, 42, 180, 0, 33, 29, 28, 8, 112, 79, 28, 8, 108]
abbrev dktX21_decode_0 : List UInt8 := dkwX21_decode_0 ++ dktX21_decode_1
theorem dksX21_decode_0 : cX21_decode.data.toList.drop 0 = dktX21_decode_0 := by decide +kernel
theorem dksX21_decode_1 : cX21_decode.data.toList.drop 24 = dktX21_decode_1 := dk_seg dksX21_decode_0 24 rfl rfl
theorem dX21_decode_0 : decode cX21_decode 0 = .ok (.iload_n 1, 1) := dk_27 (dk_at dksX21_decode_0 0 rfl rfl)
theorem dX21_decode_1 : decode cX21_decode 1 = .ok (.istore_n 2, 1) := dk_61 (dk_at dksX21_decode_0 1 rfl rfl)
theorem dX21_decode_2 : decode cX21_decode 2 = .ok (.iconst 0, 1) := dk_3 (dk_at dksX21_decode_0 2 rfl rfl)
theorem dX21_decode_3 : decode cX21_decode 3 = .ok (.istore_n 3, 1) := dk_62 (dk_at dksX21_decode_0 3 rfl rfl)
theorem dX21_decode_4 : decode cX21_decode 4 = .ok (.iload_n 3, 1) := dk_29 (dk_at dksX21_decode_0 4 rfl rfl)
theorem dX21_decode_5 : decode cX21_decode 5 = .ok (.aload_n 0, 1) := dk_42 (dk_at dksX21_decode_0 5 rfl rfl)
theorem dX21_decode_6 : decode cX21_decode 6 = .ok (.getfield 58, 3) := dk_180 0 58 (dk_at dksX21_decode_0 6 rfl rfl)
theorem dX21_decode_9 : decode cX21_decode 9 = .ok (.if_icmp .ge 22, 3) := dk_162 0 22 (dk_at dksX21_decode_0 9 rfl rfl)
theorem dX21_decode_12 : decode cX21_decode 12 = .ok (.aload_n 0, 1) := dk_42 (dk_at dksX21_decode_0 12 rfl rfl)
theorem dX21_decode_13 : decode cX21_decode 13 = .ok (.getfield 33, 3) := dk_180 0 33 (dk_at dksX21_decode_0 13 rfl rfl)
theorem dX21_decode_16 : decode cX21_decode 16 = .ok (.iload_n 3, 1) := dk_29 (dk_at dksX21_decode_0 16 rfl rfl)
theorem dX21_decode_17 : decode cX21_decode 17 = .ok (.iload_n 2, 1) := dk_28 (dk_at dksX21_decode_0 17 rfl rfl)
theorem dX21_decode_18 : decode cX21_decode 18 = .ok (.iconst 5, 1) := dk_8 (dk_at dksX21_decode_0 18 rfl rfl)
theorem dX21_decode_19 : decode cX21_decode 19 = .ok (.irem, 1) := dk_112 (dk_at dksX21_decode_0 19 rfl rfl)
theorem dX21_decode_20 : decode cX21_decode 20 = .ok (.iastore, 1) := dk_79 (dk_at dksX21_decode_0 20 rfl rfl)
theorem dX21_decode_21 : decode cX21_decode 21 = .ok (.iload_n 2, 1) := dk_28 (dk_at dksX21_decode_0 21 rfl rfl)
theorem dX21_decode_22 : decode cX21_decode 22 = .ok (.iconst 5, 1) := dk_8 (dk_at dksX21_decode_0 22 rfl rfl)
theorem dX21_decode_23 : decode cX21_decode 23 = .ok (.idiv, 1) := dk_108 (dk_at dksX21_decode_0 23 rfl rfl)
theorem dX21_decode_24 : decode cX21_decode 24 = .ok (.istore_n 2, 1) := dk_61 (dk_at dksX21_decode_1 0 rfl rfl)
theorem dX21_decode_25 : decode cX21_decode 25 = .ok (.iinc 3 1, 3) := dk_132 3 1 (dk_at dksX21_decode_1 1 rfl rfl)
theorem dX21_decode_28 : decode cX21_decode 28 = .ok (.goto (-24), 3) := dk_167 255 232 (dk_at dksX21_decode_1 4 rfl rfl)
theorem dX21_decode_31 : decode cX21_decode 31 = .ok (.return_, 1) := dk_177 (dk_at dksX21_decode_1 7 rfl rfl)
abbrev cX21_markBack : ByteArray := prog_6_method_31_code
def yX21_markBack : MethodName := ⟨RX21, "markBack", "(II)V"⟩
def dkwX21_markBack_9 : List UInt8 := [167, 255, 54, 177]
abbrev dktX21_markBack_9 : List UInt8 := dkwX21_markBack_9 ++ []
def dkwX21_markBack_8 : List UInt8 := [180, 0, 36, 21, 4, 51, 116, 167, 0, 10, 42, 180, 0, 36, 21, 4, 51, 145, 84, 132, 3, 255]
abbrev dktX21_markBack_8 : List UInt8 := dkwX21_markBack_8 ++ dktX21_markBack_9
def dkwX21_markBack_7 : List UInt8 := [21, 6, 21, 7, 79, 132, 6, 1, 167, 255, 147, 42, 180, 0, 36, 21, 4, 21, 5, 153, 0, 14, 42]
abbrev dktX21_markBack_7 : List UInt8 := dkwX21_markBack_7 ++ dktX21_markBack_8
def dkwX21_markBack_6 : List UInt8 := [51, 116, 4, 100, 160, 0, 7, 4, 167, 0, 4, 3, 54, 5, 132, 8, 1, 167, 255, 188, 42, 180, 0, 33]
abbrev dktX21_markBack_6 : List UInt8 := dkwX21_markBack_6 ++ dktX21_markBack_7
def dkwX21_markBack_5 : List UInt8 := [42, 180, 0, 33, 21, 6, 21, 8, 79, 42, 180, 0, 36, 42, 182, 0, 173, 51, 42, 180, 0, 36, 21, 4]
abbrev dktX21_markBack_5 : List UInt8 := dkwX21_markBack_5 ++ dktX21_markBack_6
def dkwX21_markBack_4 : List UInt8 := [180, 0, 55, 163, 0, 65, 21, 5, 154, 0, 60, 42, 180, 0, 17, 21, 6, 50, 180, 0, 61, 154, 0, 47]
abbrev dktX21_markBack_4 : List UInt8 := dkwX21_markBack_4 ++ dktX21_markBack_5
def dkwX21_markBack_3 : List UInt8 := [162, 0, 106, 21, 5, 154, 0, 101, 42, 180, 0, 33, 21, 6, 46, 54, 7, 3, 54, 8, 21, 8, 42]
abbrev dktX21_markBack_3 : List UInt8 := dkwX21_markBack_3 ++ dktX21_markBack_4
def dkwX21_markBack_2 : List UInt8 := [46, 28, 4, 96, 160, 0, 7, 4, 167, 0, 4, 3, 54, 5, 3, 54, 6, 21, 6, 42, 180, 0, 58]
abbrev dktX21_markBack_2 : List UInt8 := dkwX21_markBack_2 ++ dktX21_markBack_3
def dkwX21_markBack_1 : List UInt8 := [182, 0, 193, 42, 180, 0, 36, 21, 4, 51, 42, 180, 0, 48, 4, 96, 160, 0, 19, 42, 180, 0, 33, 27]
abbrev dktX21_markBack_1 : List UInt8 := dkwX21_markBack_1 ++ dktX21_markBack_2
def dkwX21_markBack_0 : List UInt8 := [42, 180, 0, 187, 4, 100, 62, 29, 155, 0, 204, 42, 180, 0, 39, 29, 53, 54, 4, 42, 21, 4]
abbrev dktX21_markBack_0 : List UInt8 := dkwX21_markBack_0 ++ dktX21_markBack_1
theorem dksX21_markBack_0 : cX21_markBack.data.toList.drop 0 = dktX21_markBack_0 := by decide +kernel
theorem dksX21_markBack_1 : cX21_markBack.data.toList.drop 22 = dktX21_markBack_1 := dk_seg dksX21_markBack_0 22 rfl rfl
theorem dksX21_markBack_2 : cX21_markBack.data.toList.drop 46 = dktX21_markBack_2 := dk_seg dksX21_markBack_1 24 rfl rfl
theorem dksX21_markBack_3 : cX21_markBack.data.toList.drop 69 = dktX21_markBack_3 := dk_seg dksX21_markBack_2 23 rfl rfl
theorem dksX21_markBack_4 : cX21_markBack.data.toList.drop 92 = dktX21_markBack_4 := dk_seg dksX21_markBack_3 23 rfl rfl
theorem dksX21_markBack_5 : cX21_markBack.data.toList.drop 116 = dktX21_markBack_5 := dk_seg dksX21_markBack_4 24 rfl rfl
theorem dksX21_markBack_6 : cX21_markBack.data.toList.drop 140 = dktX21_markBack_6 := dk_seg dksX21_markBack_5 24 rfl rfl
theorem dksX21_markBack_7 : cX21_markBack.data.toList.drop 164 = dktX21_markBack_7 := dk_seg dksX21_markBack_6 24 rfl rfl
theorem dksX21_markBack_8 : cX21_markBack.data.toList.drop 187 = dktX21_markBack_8 := dk_seg dksX21_markBack_7 23 rfl rfl
theorem dksX21_markBack_9 : cX21_markBack.data.toList.drop 209 = dktX21_markBack_9 := dk_seg dksX21_markBack_8 22 rfl rfl
theorem dX21_markBack_0 : decode cX21_markBack 0 = .ok (.aload_n 0, 1) := dk_42 (dk_at dksX21_markBack_0 0 rfl rfl)
theorem dX21_markBack_1 : decode cX21_markBack 1 = .ok (.getfield 187, 3) := dk_180 0 187 (dk_at dksX21_markBack_0 1 rfl rfl)
theorem dX21_markBack_4 : decode cX21_markBack 4 = .ok (.iconst 1, 1) := dk_4 (dk_at dksX21_markBack_0 4 rfl rfl)
theorem dX21_markBack_5 : decode cX21_markBack 5 = .ok (.isub, 1) := dk_100 (dk_at dksX21_markBack_0 5 rfl rfl)
theorem dX21_markBack_6 : decode cX21_markBack 6 = .ok (.istore_n 3, 1) := dk_62 (dk_at dksX21_markBack_0 6 rfl rfl)
theorem dX21_markBack_7 : decode cX21_markBack 7 = .ok (.iload_n 3, 1) := dk_29 (dk_at dksX21_markBack_0 7 rfl rfl)
theorem dX21_markBack_8 : decode cX21_markBack 8 = .ok (.ifCond .lt 204, 3) := dk_155 0 204 (dk_at dksX21_markBack_0 8 rfl rfl)
theorem dX21_markBack_11 : decode cX21_markBack 11 = .ok (.aload_n 0, 1) := dk_42 (dk_at dksX21_markBack_0 11 rfl rfl)
theorem dX21_markBack_12 : decode cX21_markBack 12 = .ok (.getfield 39, 3) := dk_180 0 39 (dk_at dksX21_markBack_0 12 rfl rfl)
theorem dX21_markBack_15 : decode cX21_markBack 15 = .ok (.iload_n 3, 1) := dk_29 (dk_at dksX21_markBack_0 15 rfl rfl)
theorem dX21_markBack_16 : decode cX21_markBack 16 = .ok (.saload, 1) := dk_53 (dk_at dksX21_markBack_0 16 rfl rfl)
theorem dX21_markBack_17 : decode cX21_markBack 17 = .ok (.istore 4, 2) := dk_54 4 (dk_at dksX21_markBack_0 17 rfl rfl)
theorem dX21_markBack_19 : decode cX21_markBack 19 = .ok (.aload_n 0, 1) := dk_42 (dk_at dksX21_markBack_0 19 rfl rfl)
theorem dX21_markBack_20 : decode cX21_markBack 20 = .ok (.iload 4, 2) := dk_21 4 (dk_at dksX21_markBack_0 20 rfl rfl)
theorem dX21_markBack_22 : decode cX21_markBack 22 = .ok (.invokevirtual 193, 3) := dk_182 0 193 (dk_at dksX21_markBack_1 0 rfl rfl)
theorem dX21_markBack_25 : decode cX21_markBack 25 = .ok (.aload_n 0, 1) := dk_42 (dk_at dksX21_markBack_1 3 rfl rfl)
theorem dX21_markBack_26 : decode cX21_markBack 26 = .ok (.getfield 36, 3) := dk_180 0 36 (dk_at dksX21_markBack_1 4 rfl rfl)
theorem dX21_markBack_29 : decode cX21_markBack 29 = .ok (.iload 4, 2) := dk_21 4 (dk_at dksX21_markBack_1 7 rfl rfl)
theorem dX21_markBack_31 : decode cX21_markBack 31 = .ok (.baload, 1) := dk_51 (dk_at dksX21_markBack_1 9 rfl rfl)
theorem dX21_markBack_32 : decode cX21_markBack 32 = .ok (.aload_n 0, 1) := dk_42 (dk_at dksX21_markBack_1 10 rfl rfl)
theorem dX21_markBack_33 : decode cX21_markBack 33 = .ok (.getfield 48, 3) := dk_180 0 48 (dk_at dksX21_markBack_1 11 rfl rfl)
theorem dX21_markBack_36 : decode cX21_markBack 36 = .ok (.iconst 1, 1) := dk_4 (dk_at dksX21_markBack_1 14 rfl rfl)
theorem dX21_markBack_37 : decode cX21_markBack 37 = .ok (.iadd, 1) := dk_96 (dk_at dksX21_markBack_1 15 rfl rfl)
theorem dX21_markBack_38 : decode cX21_markBack 38 = .ok (.if_icmp .ne 19, 3) := dk_160 0 19 (dk_at dksX21_markBack_1 16 rfl rfl)
theorem dX21_markBack_41 : decode cX21_markBack 41 = .ok (.aload_n 0, 1) := dk_42 (dk_at dksX21_markBack_1 19 rfl rfl)
theorem dX21_markBack_42 : decode cX21_markBack 42 = .ok (.getfield 33, 3) := dk_180 0 33 (dk_at dksX21_markBack_1 20 rfl rfl)
theorem dX21_markBack_45 : decode cX21_markBack 45 = .ok (.iload_n 1, 1) := dk_27 (dk_at dksX21_markBack_1 23 rfl rfl)
theorem dX21_markBack_46 : decode cX21_markBack 46 = .ok (.iaload, 1) := dk_46 (dk_at dksX21_markBack_2 0 rfl rfl)
theorem dX21_markBack_47 : decode cX21_markBack 47 = .ok (.iload_n 2, 1) := dk_28 (dk_at dksX21_markBack_2 1 rfl rfl)
theorem dX21_markBack_48 : decode cX21_markBack 48 = .ok (.iconst 1, 1) := dk_4 (dk_at dksX21_markBack_2 2 rfl rfl)
theorem dX21_markBack_49 : decode cX21_markBack 49 = .ok (.iadd, 1) := dk_96 (dk_at dksX21_markBack_2 3 rfl rfl)
theorem dX21_markBack_50 : decode cX21_markBack 50 = .ok (.if_icmp .ne 7, 3) := dk_160 0 7 (dk_at dksX21_markBack_2 4 rfl rfl)
theorem dX21_markBack_53 : decode cX21_markBack 53 = .ok (.iconst 1, 1) := dk_4 (dk_at dksX21_markBack_2 7 rfl rfl)
theorem dX21_markBack_54 : decode cX21_markBack 54 = .ok (.goto 4, 3) := dk_167 0 4 (dk_at dksX21_markBack_2 8 rfl rfl)
theorem dX21_markBack_57 : decode cX21_markBack 57 = .ok (.iconst 0, 1) := dk_3 (dk_at dksX21_markBack_2 11 rfl rfl)
theorem dX21_markBack_58 : decode cX21_markBack 58 = .ok (.istore 5, 2) := dk_54 5 (dk_at dksX21_markBack_2 12 rfl rfl)
theorem dX21_markBack_60 : decode cX21_markBack 60 = .ok (.iconst 0, 1) := dk_3 (dk_at dksX21_markBack_2 14 rfl rfl)
theorem dX21_markBack_61 : decode cX21_markBack 61 = .ok (.istore 6, 2) := dk_54 6 (dk_at dksX21_markBack_2 15 rfl rfl)
theorem dX21_markBack_63 : decode cX21_markBack 63 = .ok (.iload 6, 2) := dk_21 6 (dk_at dksX21_markBack_2 17 rfl rfl)
theorem dX21_markBack_65 : decode cX21_markBack 65 = .ok (.aload_n 0, 1) := dk_42 (dk_at dksX21_markBack_2 19 rfl rfl)
theorem dX21_markBack_66 : decode cX21_markBack 66 = .ok (.getfield 58, 3) := dk_180 0 58 (dk_at dksX21_markBack_2 20 rfl rfl)
theorem dX21_markBack_69 : decode cX21_markBack 69 = .ok (.if_icmp .ge 106, 3) := dk_162 0 106 (dk_at dksX21_markBack_3 0 rfl rfl)
theorem dX21_markBack_72 : decode cX21_markBack 72 = .ok (.iload 5, 2) := dk_21 5 (dk_at dksX21_markBack_3 3 rfl rfl)
theorem dX21_markBack_74 : decode cX21_markBack 74 = .ok (.ifCond .ne 101, 3) := dk_154 0 101 (dk_at dksX21_markBack_3 5 rfl rfl)
theorem dX21_markBack_77 : decode cX21_markBack 77 = .ok (.aload_n 0, 1) := dk_42 (dk_at dksX21_markBack_3 8 rfl rfl)
theorem dX21_markBack_78 : decode cX21_markBack 78 = .ok (.getfield 33, 3) := dk_180 0 33 (dk_at dksX21_markBack_3 9 rfl rfl)
theorem dX21_markBack_81 : decode cX21_markBack 81 = .ok (.iload 6, 2) := dk_21 6 (dk_at dksX21_markBack_3 12 rfl rfl)
theorem dX21_markBack_83 : decode cX21_markBack 83 = .ok (.iaload, 1) := dk_46 (dk_at dksX21_markBack_3 14 rfl rfl)
theorem dX21_markBack_84 : decode cX21_markBack 84 = .ok (.istore 7, 2) := dk_54 7 (dk_at dksX21_markBack_3 15 rfl rfl)
theorem dX21_markBack_86 : decode cX21_markBack 86 = .ok (.iconst 0, 1) := dk_3 (dk_at dksX21_markBack_3 17 rfl rfl)
theorem dX21_markBack_87 : decode cX21_markBack 87 = .ok (.istore 8, 2) := dk_54 8 (dk_at dksX21_markBack_3 18 rfl rfl)
theorem dX21_markBack_89 : decode cX21_markBack 89 = .ok (.iload 8, 2) := dk_21 8 (dk_at dksX21_markBack_3 20 rfl rfl)
theorem dX21_markBack_91 : decode cX21_markBack 91 = .ok (.aload_n 0, 1) := dk_42 (dk_at dksX21_markBack_3 22 rfl rfl)
theorem dX21_markBack_92 : decode cX21_markBack 92 = .ok (.getfield 55, 3) := dk_180 0 55 (dk_at dksX21_markBack_4 0 rfl rfl)
theorem dX21_markBack_95 : decode cX21_markBack 95 = .ok (.if_icmp .gt 65, 3) := dk_163 0 65 (dk_at dksX21_markBack_4 3 rfl rfl)
theorem dX21_markBack_98 : decode cX21_markBack 98 = .ok (.iload 5, 2) := dk_21 5 (dk_at dksX21_markBack_4 6 rfl rfl)
theorem dX21_markBack_100 : decode cX21_markBack 100 = .ok (.ifCond .ne 60, 3) := dk_154 0 60 (dk_at dksX21_markBack_4 8 rfl rfl)
theorem dX21_markBack_103 : decode cX21_markBack 103 = .ok (.aload_n 0, 1) := dk_42 (dk_at dksX21_markBack_4 11 rfl rfl)
theorem dX21_markBack_104 : decode cX21_markBack 104 = .ok (.getfield 17, 3) := dk_180 0 17 (dk_at dksX21_markBack_4 12 rfl rfl)
theorem dX21_markBack_107 : decode cX21_markBack 107 = .ok (.iload 6, 2) := dk_21 6 (dk_at dksX21_markBack_4 15 rfl rfl)
theorem dX21_markBack_109 : decode cX21_markBack 109 = .ok (.aaload, 1) := dk_50 (dk_at dksX21_markBack_4 17 rfl rfl)
theorem dX21_markBack_110 : decode cX21_markBack 110 = .ok (.getfield 61, 3) := dk_180 0 61 (dk_at dksX21_markBack_4 18 rfl rfl)
theorem dX21_markBack_113 : decode cX21_markBack 113 = .ok (.ifCond .ne 47, 3) := dk_154 0 47 (dk_at dksX21_markBack_4 21 rfl rfl)
theorem dX21_markBack_116 : decode cX21_markBack 116 = .ok (.aload_n 0, 1) := dk_42 (dk_at dksX21_markBack_5 0 rfl rfl)
theorem dX21_markBack_117 : decode cX21_markBack 117 = .ok (.getfield 33, 3) := dk_180 0 33 (dk_at dksX21_markBack_5 1 rfl rfl)
theorem dX21_markBack_120 : decode cX21_markBack 120 = .ok (.iload 6, 2) := dk_21 6 (dk_at dksX21_markBack_5 4 rfl rfl)
theorem dX21_markBack_122 : decode cX21_markBack 122 = .ok (.iload 8, 2) := dk_21 8 (dk_at dksX21_markBack_5 6 rfl rfl)
theorem dX21_markBack_124 : decode cX21_markBack 124 = .ok (.iastore, 1) := dk_79 (dk_at dksX21_markBack_5 8 rfl rfl)
theorem dX21_markBack_125 : decode cX21_markBack 125 = .ok (.aload_n 0, 1) := dk_42 (dk_at dksX21_markBack_5 9 rfl rfl)
theorem dX21_markBack_126 : decode cX21_markBack 126 = .ok (.getfield 36, 3) := dk_180 0 36 (dk_at dksX21_markBack_5 10 rfl rfl)
theorem dX21_markBack_129 : decode cX21_markBack 129 = .ok (.aload_n 0, 1) := dk_42 (dk_at dksX21_markBack_5 13 rfl rfl)
theorem dX21_markBack_130 : decode cX21_markBack 130 = .ok (.invokevirtual 173, 3) := dk_182 0 173 (dk_at dksX21_markBack_5 14 rfl rfl)
theorem dX21_markBack_133 : decode cX21_markBack 133 = .ok (.baload, 1) := dk_51 (dk_at dksX21_markBack_5 17 rfl rfl)
theorem dX21_markBack_134 : decode cX21_markBack 134 = .ok (.aload_n 0, 1) := dk_42 (dk_at dksX21_markBack_5 18 rfl rfl)
theorem dX21_markBack_135 : decode cX21_markBack 135 = .ok (.getfield 36, 3) := dk_180 0 36 (dk_at dksX21_markBack_5 19 rfl rfl)
theorem dX21_markBack_138 : decode cX21_markBack 138 = .ok (.iload 4, 2) := dk_21 4 (dk_at dksX21_markBack_5 22 rfl rfl)
theorem dX21_markBack_140 : decode cX21_markBack 140 = .ok (.baload, 1) := dk_51 (dk_at dksX21_markBack_6 0 rfl rfl)
theorem dX21_markBack_141 : decode cX21_markBack 141 = .ok (.ineg, 1) := dk_116 (dk_at dksX21_markBack_6 1 rfl rfl)
theorem dX21_markBack_142 : decode cX21_markBack 142 = .ok (.iconst 1, 1) := dk_4 (dk_at dksX21_markBack_6 2 rfl rfl)
theorem dX21_markBack_143 : decode cX21_markBack 143 = .ok (.isub, 1) := dk_100 (dk_at dksX21_markBack_6 3 rfl rfl)
theorem dX21_markBack_144 : decode cX21_markBack 144 = .ok (.if_icmp .ne 7, 3) := dk_160 0 7 (dk_at dksX21_markBack_6 4 rfl rfl)
theorem dX21_markBack_147 : decode cX21_markBack 147 = .ok (.iconst 1, 1) := dk_4 (dk_at dksX21_markBack_6 7 rfl rfl)
theorem dX21_markBack_148 : decode cX21_markBack 148 = .ok (.goto 4, 3) := dk_167 0 4 (dk_at dksX21_markBack_6 8 rfl rfl)
theorem dX21_markBack_151 : decode cX21_markBack 151 = .ok (.iconst 0, 1) := dk_3 (dk_at dksX21_markBack_6 11 rfl rfl)
theorem dX21_markBack_152 : decode cX21_markBack 152 = .ok (.istore 5, 2) := dk_54 5 (dk_at dksX21_markBack_6 12 rfl rfl)
theorem dX21_markBack_154 : decode cX21_markBack 154 = .ok (.iinc 8 1, 3) := dk_132 8 1 (dk_at dksX21_markBack_6 14 rfl rfl)
theorem dX21_markBack_157 : decode cX21_markBack 157 = .ok (.goto (-68), 3) := dk_167 255 188 (dk_at dksX21_markBack_6 17 rfl rfl)
theorem dX21_markBack_160 : decode cX21_markBack 160 = .ok (.aload_n 0, 1) := dk_42 (dk_at dksX21_markBack_6 20 rfl rfl)
theorem dX21_markBack_161 : decode cX21_markBack 161 = .ok (.getfield 33, 3) := dk_180 0 33 (dk_at dksX21_markBack_6 21 rfl rfl)
theorem dX21_markBack_164 : decode cX21_markBack 164 = .ok (.iload 6, 2) := dk_21 6 (dk_at dksX21_markBack_7 0 rfl rfl)
theorem dX21_markBack_166 : decode cX21_markBack 166 = .ok (.iload 7, 2) := dk_21 7 (dk_at dksX21_markBack_7 2 rfl rfl)
theorem dX21_markBack_168 : decode cX21_markBack 168 = .ok (.iastore, 1) := dk_79 (dk_at dksX21_markBack_7 4 rfl rfl)
theorem dX21_markBack_169 : decode cX21_markBack 169 = .ok (.iinc 6 1, 3) := dk_132 6 1 (dk_at dksX21_markBack_7 5 rfl rfl)
theorem dX21_markBack_172 : decode cX21_markBack 172 = .ok (.goto (-109), 3) := dk_167 255 147 (dk_at dksX21_markBack_7 8 rfl rfl)
theorem dX21_markBack_175 : decode cX21_markBack 175 = .ok (.aload_n 0, 1) := dk_42 (dk_at dksX21_markBack_7 11 rfl rfl)
theorem dX21_markBack_176 : decode cX21_markBack 176 = .ok (.getfield 36, 3) := dk_180 0 36 (dk_at dksX21_markBack_7 12 rfl rfl)
theorem dX21_markBack_179 : decode cX21_markBack 179 = .ok (.iload 4, 2) := dk_21 4 (dk_at dksX21_markBack_7 15 rfl rfl)
theorem dX21_markBack_181 : decode cX21_markBack 181 = .ok (.iload 5, 2) := dk_21 5 (dk_at dksX21_markBack_7 17 rfl rfl)
theorem dX21_markBack_183 : decode cX21_markBack 183 = .ok (.ifCond .eq 14, 3) := dk_153 0 14 (dk_at dksX21_markBack_7 19 rfl rfl)
theorem dX21_markBack_186 : decode cX21_markBack 186 = .ok (.aload_n 0, 1) := dk_42 (dk_at dksX21_markBack_7 22 rfl rfl)
theorem dX21_markBack_187 : decode cX21_markBack 187 = .ok (.getfield 36, 3) := dk_180 0 36 (dk_at dksX21_markBack_8 0 rfl rfl)
theorem dX21_markBack_190 : decode cX21_markBack 190 = .ok (.iload 4, 2) := dk_21 4 (dk_at dksX21_markBack_8 3 rfl rfl)
theorem dX21_markBack_192 : decode cX21_markBack 192 = .ok (.baload, 1) := dk_51 (dk_at dksX21_markBack_8 5 rfl rfl)
theorem dX21_markBack_193 : decode cX21_markBack 193 = .ok (.ineg, 1) := dk_116 (dk_at dksX21_markBack_8 6 rfl rfl)
theorem dX21_markBack_194 : decode cX21_markBack 194 = .ok (.goto 10, 3) := dk_167 0 10 (dk_at dksX21_markBack_8 7 rfl rfl)
theorem dX21_markBack_197 : decode cX21_markBack 197 = .ok (.aload_n 0, 1) := dk_42 (dk_at dksX21_markBack_8 10 rfl rfl)
theorem dX21_markBack_198 : decode cX21_markBack 198 = .ok (.getfield 36, 3) := dk_180 0 36 (dk_at dksX21_markBack_8 11 rfl rfl)
theorem dX21_markBack_201 : decode cX21_markBack 201 = .ok (.iload 4, 2) := dk_21 4 (dk_at dksX21_markBack_8 14 rfl rfl)
theorem dX21_markBack_203 : decode cX21_markBack 203 = .ok (.baload, 1) := dk_51 (dk_at dksX21_markBack_8 16 rfl rfl)
theorem dX21_markBack_204 : decode cX21_markBack 204 = .ok (.i2b, 1) := dk_145 (dk_at dksX21_markBack_8 17 rfl rfl)
theorem dX21_markBack_205 : decode cX21_markBack 205 = .ok (.bastore, 1) := dk_84 (dk_at dksX21_markBack_8 18 rfl rfl)
theorem dX21_markBack_206 : decode cX21_markBack 206 = .ok (.iinc 3 (-1), 3) := dk_132 3 255 (dk_at dksX21_markBack_8 19 rfl rfl)
theorem dX21_markBack_209 : decode cX21_markBack 209 = .ok (.goto (-202), 3) := dk_167 255 54 (dk_at dksX21_markBack_9 0 rfl rfl)
theorem dX21_markBack_212 : decode cX21_markBack 212 = .ok (.return_, 1) := dk_177 (dk_at dksX21_markBack_9 3 rfl rfl)
abbrev cX21_goAlong : ByteArray := prog_6_method_32_code
def yX21_goAlong : MethodName := ⟨RX21, "goAlong", "(I)V"⟩
def dkwX21_goAlong_7 : List UInt8 := [177]
abbrev dktX21_goAlong_7 : List UInt8 := dkwX21_goAlong_7 ++ []
def dkwX21_goAlong_6 : List UInt8 := [180, 0, 33, 21, 4, 46, 167, 0, 5, 21, 5, 79, 132, 4, 1, 167, 255, 122, 132, 2, 1, 167, 255, 103]
abbrev dktX21_goAlong_6 : List UInt8 := dkwX21_goAlong_6 ++ dktX21_goAlong_7
def dkwX21_goAlong_5 : List UInt8 := [21, 6, 4, 100, 145, 84, 132, 6, 1, 167, 255, 176, 42, 180, 0, 33, 21, 4, 29, 153, 0, 13, 42]
abbrev dktX21_goAlong_5 : List UInt8 := dkwX21_goAlong_5 ++ dktX21_goAlong_6
def dkwX21_goAlong_4 : List UInt8 := [160, 0, 7, 4, 167, 0, 4, 3, 62, 42, 180, 0, 42, 28, 21, 4, 145, 84, 42, 180, 0, 45, 28]
abbrev dktX21_goAlong_4 : List UInt8 := dkwX21_goAlong_4 ++ dktX21_goAlong_5
def dkwX21_goAlong_3 : List UInt8 := [42, 180, 0, 33, 21, 4, 21, 6, 79, 42, 180, 0, 36, 42, 182, 0, 173, 51, 28, 116, 5, 100]
abbrev dktX21_goAlong_3 : List UInt8 := dkwX21_goAlong_3 ++ dktX21_goAlong_4
def dkwX21_goAlong_2 : List UInt8 := [42, 180, 0, 55, 163, 0, 77, 29, 154, 0, 73, 42, 180, 0, 17, 21, 4, 50, 180, 0, 61, 154, 0, 60]
abbrev dktX21_goAlong_2 : List UInt8 := dkwX21_goAlong_2 ++ dktX21_goAlong_3
def dkwX21_goAlong_1 : List UInt8 := [180, 0, 58, 162, 0, 131, 29, 154, 0, 127, 42, 180, 0, 33, 21, 4, 46, 54, 5, 3, 54, 6, 21, 6]
abbrev dktX21_goAlong_1 : List UInt8 := dkwX21_goAlong_1 ++ dktX21_goAlong_2
def dkwX21_goAlong_0 : List UInt8 := [42, 27, 182, 0, 193, 3, 61, 28, 42, 180, 0, 48, 162, 0, 151, 3, 62, 3, 54, 4, 21, 4, 42]
abbrev dktX21_goAlong_0 : List UInt8 := dkwX21_goAlong_0 ++ dktX21_goAlong_1
theorem dksX21_goAlong_0 : cX21_goAlong.data.toList.drop 0 = dktX21_goAlong_0 := by decide +kernel
theorem dksX21_goAlong_1 : cX21_goAlong.data.toList.drop 23 = dktX21_goAlong_1 := dk_seg dksX21_goAlong_0 23 rfl rfl
theorem dksX21_goAlong_2 : cX21_goAlong.data.toList.drop 47 = dktX21_goAlong_2 := dk_seg dksX21_goAlong_1 24 rfl rfl
theorem dksX21_goAlong_3 : cX21_goAlong.data.toList.drop 71 = dktX21_goAlong_3 := dk_seg dksX21_goAlong_2 24 rfl rfl
theorem dksX21_goAlong_4 : cX21_goAlong.data.toList.drop 93 = dktX21_goAlong_4 := dk_seg dksX21_goAlong_3 22 rfl rfl
theorem dksX21_goAlong_5 : cX21_goAlong.data.toList.drop 116 = dktX21_goAlong_5 := dk_seg dksX21_goAlong_4 23 rfl rfl
theorem dksX21_goAlong_6 : cX21_goAlong.data.toList.drop 139 = dktX21_goAlong_6 := dk_seg dksX21_goAlong_5 23 rfl rfl
theorem dksX21_goAlong_7 : cX21_goAlong.data.toList.drop 163 = dktX21_goAlong_7 := dk_seg dksX21_goAlong_6 24 rfl rfl
theorem dX21_goAlong_0 : decode cX21_goAlong 0 = .ok (.aload_n 0, 1) := dk_42 (dk_at dksX21_goAlong_0 0 rfl rfl)
theorem dX21_goAlong_1 : decode cX21_goAlong 1 = .ok (.iload_n 1, 1) := dk_27 (dk_at dksX21_goAlong_0 1 rfl rfl)
theorem dX21_goAlong_2 : decode cX21_goAlong 2 = .ok (.invokevirtual 193, 3) := dk_182 0 193 (dk_at dksX21_goAlong_0 2 rfl rfl)
theorem dX21_goAlong_5 : decode cX21_goAlong 5 = .ok (.iconst 0, 1) := dk_3 (dk_at dksX21_goAlong_0 5 rfl rfl)
theorem dX21_goAlong_6 : decode cX21_goAlong 6 = .ok (.istore_n 2, 1) := dk_61 (dk_at dksX21_goAlong_0 6 rfl rfl)
theorem dX21_goAlong_7 : decode cX21_goAlong 7 = .ok (.iload_n 2, 1) := dk_28 (dk_at dksX21_goAlong_0 7 rfl rfl)
theorem dX21_goAlong_8 : decode cX21_goAlong 8 = .ok (.aload_n 0, 1) := dk_42 (dk_at dksX21_goAlong_0 8 rfl rfl)
theorem dX21_goAlong_9 : decode cX21_goAlong 9 = .ok (.getfield 48, 3) := dk_180 0 48 (dk_at dksX21_goAlong_0 9 rfl rfl)
theorem dX21_goAlong_12 : decode cX21_goAlong 12 = .ok (.if_icmp .ge 151, 3) := dk_162 0 151 (dk_at dksX21_goAlong_0 12 rfl rfl)
theorem dX21_goAlong_15 : decode cX21_goAlong 15 = .ok (.iconst 0, 1) := dk_3 (dk_at dksX21_goAlong_0 15 rfl rfl)
theorem dX21_goAlong_16 : decode cX21_goAlong 16 = .ok (.istore_n 3, 1) := dk_62 (dk_at dksX21_goAlong_0 16 rfl rfl)
theorem dX21_goAlong_17 : decode cX21_goAlong 17 = .ok (.iconst 0, 1) := dk_3 (dk_at dksX21_goAlong_0 17 rfl rfl)
theorem dX21_goAlong_18 : decode cX21_goAlong 18 = .ok (.istore 4, 2) := dk_54 4 (dk_at dksX21_goAlong_0 18 rfl rfl)
theorem dX21_goAlong_20 : decode cX21_goAlong 20 = .ok (.iload 4, 2) := dk_21 4 (dk_at dksX21_goAlong_0 20 rfl rfl)
theorem dX21_goAlong_22 : decode cX21_goAlong 22 = .ok (.aload_n 0, 1) := dk_42 (dk_at dksX21_goAlong_0 22 rfl rfl)
theorem dX21_goAlong_23 : decode cX21_goAlong 23 = .ok (.getfield 58, 3) := dk_180 0 58 (dk_at dksX21_goAlong_1 0 rfl rfl)
theorem dX21_goAlong_26 : decode cX21_goAlong 26 = .ok (.if_icmp .ge 131, 3) := dk_162 0 131 (dk_at dksX21_goAlong_1 3 rfl rfl)
theorem dX21_goAlong_29 : decode cX21_goAlong 29 = .ok (.iload_n 3, 1) := dk_29 (dk_at dksX21_goAlong_1 6 rfl rfl)
theorem dX21_goAlong_30 : decode cX21_goAlong 30 = .ok (.ifCond .ne 127, 3) := dk_154 0 127 (dk_at dksX21_goAlong_1 7 rfl rfl)
theorem dX21_goAlong_33 : decode cX21_goAlong 33 = .ok (.aload_n 0, 1) := dk_42 (dk_at dksX21_goAlong_1 10 rfl rfl)
theorem dX21_goAlong_34 : decode cX21_goAlong 34 = .ok (.getfield 33, 3) := dk_180 0 33 (dk_at dksX21_goAlong_1 11 rfl rfl)
theorem dX21_goAlong_37 : decode cX21_goAlong 37 = .ok (.iload 4, 2) := dk_21 4 (dk_at dksX21_goAlong_1 14 rfl rfl)
theorem dX21_goAlong_39 : decode cX21_goAlong 39 = .ok (.iaload, 1) := dk_46 (dk_at dksX21_goAlong_1 16 rfl rfl)
theorem dX21_goAlong_40 : decode cX21_goAlong 40 = .ok (.istore 5, 2) := dk_54 5 (dk_at dksX21_goAlong_1 17 rfl rfl)
theorem dX21_goAlong_42 : decode cX21_goAlong 42 = .ok (.iconst 0, 1) := dk_3 (dk_at dksX21_goAlong_1 19 rfl rfl)
theorem dX21_goAlong_43 : decode cX21_goAlong 43 = .ok (.istore 6, 2) := dk_54 6 (dk_at dksX21_goAlong_1 20 rfl rfl)
theorem dX21_goAlong_45 : decode cX21_goAlong 45 = .ok (.iload 6, 2) := dk_21 6 (dk_at dksX21_goAlong_1 22 rfl rfl)
theorem dX21_goAlong_47 : decode cX21_goAlong 47 = .ok (.aload_n 0, 1) := dk_42 (dk_at dksX21_goAlong_2 0 rfl rfl)
theorem dX21_goAlong_48 : decode cX21_goAlong 48 = .ok (.getfield 55, 3) := dk_180 0 55 (dk_at dksX21_goAlong_2 1 rfl rfl)
theorem dX21_goAlong_51 : decode cX21_goAlong 51 = .ok (.if_icmp .gt 77, 3) := dk_163 0 77 (dk_at dksX21_goAlong_2 4 rfl rfl)
theorem dX21_goAlong_54 : decode cX21_goAlong 54 = .ok (.iload_n 3, 1) := dk_29 (dk_at dksX21_goAlong_2 7 rfl rfl)
theorem dX21_goAlong_55 : decode cX21_goAlong 55 = .ok (.ifCond .ne 73, 3) := dk_154 0 73 (dk_at dksX21_goAlong_2 8 rfl rfl)
theorem dX21_goAlong_58 : decode cX21_goAlong 58 = .ok (.aload_n 0, 1) := dk_42 (dk_at dksX21_goAlong_2 11 rfl rfl)
theorem dX21_goAlong_59 : decode cX21_goAlong 59 = .ok (.getfield 17, 3) := dk_180 0 17 (dk_at dksX21_goAlong_2 12 rfl rfl)
theorem dX21_goAlong_62 : decode cX21_goAlong 62 = .ok (.iload 4, 2) := dk_21 4 (dk_at dksX21_goAlong_2 15 rfl rfl)
theorem dX21_goAlong_64 : decode cX21_goAlong 64 = .ok (.aaload, 1) := dk_50 (dk_at dksX21_goAlong_2 17 rfl rfl)
theorem dX21_goAlong_65 : decode cX21_goAlong 65 = .ok (.getfield 61, 3) := dk_180 0 61 (dk_at dksX21_goAlong_2 18 rfl rfl)
theorem dX21_goAlong_68 : decode cX21_goAlong 68 = .ok (.ifCond .ne 60, 3) := dk_154 0 60 (dk_at dksX21_goAlong_2 21 rfl rfl)
theorem dX21_goAlong_71 : decode cX21_goAlong 71 = .ok (.aload_n 0, 1) := dk_42 (dk_at dksX21_goAlong_3 0 rfl rfl)
theorem dX21_goAlong_72 : decode cX21_goAlong 72 = .ok (.getfield 33, 3) := dk_180 0 33 (dk_at dksX21_goAlong_3 1 rfl rfl)
theorem dX21_goAlong_75 : decode cX21_goAlong 75 = .ok (.iload 4, 2) := dk_21 4 (dk_at dksX21_goAlong_3 4 rfl rfl)
theorem dX21_goAlong_77 : decode cX21_goAlong 77 = .ok (.iload 6, 2) := dk_21 6 (dk_at dksX21_goAlong_3 6 rfl rfl)
theorem dX21_goAlong_79 : decode cX21_goAlong 79 = .ok (.iastore, 1) := dk_79 (dk_at dksX21_goAlong_3 8 rfl rfl)
theorem dX21_goAlong_80 : decode cX21_goAlong 80 = .ok (.aload_n 0, 1) := dk_42 (dk_at dksX21_goAlong_3 9 rfl rfl)
theorem dX21_goAlong_81 : decode cX21_goAlong 81 = .ok (.getfield 36, 3) := dk_180 0 36 (dk_at dksX21_goAlong_3 10 rfl rfl)
theorem dX21_goAlong_84 : decode cX21_goAlong 84 = .ok (.aload_n 0, 1) := dk_42 (dk_at dksX21_goAlong_3 13 rfl rfl)
theorem dX21_goAlong_85 : decode cX21_goAlong 85 = .ok (.invokevirtual 173, 3) := dk_182 0 173 (dk_at dksX21_goAlong_3 14 rfl rfl)
theorem dX21_goAlong_88 : decode cX21_goAlong 88 = .ok (.baload, 1) := dk_51 (dk_at dksX21_goAlong_3 17 rfl rfl)
theorem dX21_goAlong_89 : decode cX21_goAlong 89 = .ok (.iload_n 2, 1) := dk_28 (dk_at dksX21_goAlong_3 18 rfl rfl)
theorem dX21_goAlong_90 : decode cX21_goAlong 90 = .ok (.ineg, 1) := dk_116 (dk_at dksX21_goAlong_3 19 rfl rfl)
theorem dX21_goAlong_91 : decode cX21_goAlong 91 = .ok (.iconst 2, 1) := dk_5 (dk_at dksX21_goAlong_3 20 rfl rfl)
theorem dX21_goAlong_92 : decode cX21_goAlong 92 = .ok (.isub, 1) := dk_100 (dk_at dksX21_goAlong_3 21 rfl rfl)
theorem dX21_goAlong_93 : decode cX21_goAlong 93 = .ok (.if_icmp .ne 7, 3) := dk_160 0 7 (dk_at dksX21_goAlong_4 0 rfl rfl)
theorem dX21_goAlong_96 : decode cX21_goAlong 96 = .ok (.iconst 1, 1) := dk_4 (dk_at dksX21_goAlong_4 3 rfl rfl)
theorem dX21_goAlong_97 : decode cX21_goAlong 97 = .ok (.goto 4, 3) := dk_167 0 4 (dk_at dksX21_goAlong_4 4 rfl rfl)
theorem dX21_goAlong_100 : decode cX21_goAlong 100 = .ok (.iconst 0, 1) := dk_3 (dk_at dksX21_goAlong_4 7 rfl rfl)
theorem dX21_goAlong_101 : decode cX21_goAlong 101 = .ok (.istore_n 3, 1) := dk_62 (dk_at dksX21_goAlong_4 8 rfl rfl)
theorem dX21_goAlong_102 : decode cX21_goAlong 102 = .ok (.aload_n 0, 1) := dk_42 (dk_at dksX21_goAlong_4 9 rfl rfl)
theorem dX21_goAlong_103 : decode cX21_goAlong 103 = .ok (.getfield 42, 3) := dk_180 0 42 (dk_at dksX21_goAlong_4 10 rfl rfl)
theorem dX21_goAlong_106 : decode cX21_goAlong 106 = .ok (.iload_n 2, 1) := dk_28 (dk_at dksX21_goAlong_4 13 rfl rfl)
theorem dX21_goAlong_107 : decode cX21_goAlong 107 = .ok (.iload 4, 2) := dk_21 4 (dk_at dksX21_goAlong_4 14 rfl rfl)
theorem dX21_goAlong_109 : decode cX21_goAlong 109 = .ok (.i2b, 1) := dk_145 (dk_at dksX21_goAlong_4 16 rfl rfl)
theorem dX21_goAlong_110 : decode cX21_goAlong 110 = .ok (.bastore, 1) := dk_84 (dk_at dksX21_goAlong_4 17 rfl rfl)
theorem dX21_goAlong_111 : decode cX21_goAlong 111 = .ok (.aload_n 0, 1) := dk_42 (dk_at dksX21_goAlong_4 18 rfl rfl)
theorem dX21_goAlong_112 : decode cX21_goAlong 112 = .ok (.getfield 45, 3) := dk_180 0 45 (dk_at dksX21_goAlong_4 19 rfl rfl)
theorem dX21_goAlong_115 : decode cX21_goAlong 115 = .ok (.iload_n 2, 1) := dk_28 (dk_at dksX21_goAlong_4 22 rfl rfl)
theorem dX21_goAlong_116 : decode cX21_goAlong 116 = .ok (.iload 6, 2) := dk_21 6 (dk_at dksX21_goAlong_5 0 rfl rfl)
theorem dX21_goAlong_118 : decode cX21_goAlong 118 = .ok (.iconst 1, 1) := dk_4 (dk_at dksX21_goAlong_5 2 rfl rfl)
theorem dX21_goAlong_119 : decode cX21_goAlong 119 = .ok (.isub, 1) := dk_100 (dk_at dksX21_goAlong_5 3 rfl rfl)
theorem dX21_goAlong_120 : decode cX21_goAlong 120 = .ok (.i2b, 1) := dk_145 (dk_at dksX21_goAlong_5 4 rfl rfl)
theorem dX21_goAlong_121 : decode cX21_goAlong 121 = .ok (.bastore, 1) := dk_84 (dk_at dksX21_goAlong_5 5 rfl rfl)
theorem dX21_goAlong_122 : decode cX21_goAlong 122 = .ok (.iinc 6 1, 3) := dk_132 6 1 (dk_at dksX21_goAlong_5 6 rfl rfl)
theorem dX21_goAlong_125 : decode cX21_goAlong 125 = .ok (.goto (-80), 3) := dk_167 255 176 (dk_at dksX21_goAlong_5 9 rfl rfl)
theorem dX21_goAlong_128 : decode cX21_goAlong 128 = .ok (.aload_n 0, 1) := dk_42 (dk_at dksX21_goAlong_5 12 rfl rfl)
theorem dX21_goAlong_129 : decode cX21_goAlong 129 = .ok (.getfield 33, 3) := dk_180 0 33 (dk_at dksX21_goAlong_5 13 rfl rfl)
theorem dX21_goAlong_132 : decode cX21_goAlong 132 = .ok (.iload 4, 2) := dk_21 4 (dk_at dksX21_goAlong_5 16 rfl rfl)
theorem dX21_goAlong_134 : decode cX21_goAlong 134 = .ok (.iload_n 3, 1) := dk_29 (dk_at dksX21_goAlong_5 18 rfl rfl)
theorem dX21_goAlong_135 : decode cX21_goAlong 135 = .ok (.ifCond .eq 13, 3) := dk_153 0 13 (dk_at dksX21_goAlong_5 19 rfl rfl)
theorem dX21_goAlong_138 : decode cX21_goAlong 138 = .ok (.aload_n 0, 1) := dk_42 (dk_at dksX21_goAlong_5 22 rfl rfl)
theorem dX21_goAlong_139 : decode cX21_goAlong 139 = .ok (.getfield 33, 3) := dk_180 0 33 (dk_at dksX21_goAlong_6 0 rfl rfl)
theorem dX21_goAlong_142 : decode cX21_goAlong 142 = .ok (.iload 4, 2) := dk_21 4 (dk_at dksX21_goAlong_6 3 rfl rfl)
theorem dX21_goAlong_144 : decode cX21_goAlong 144 = .ok (.iaload, 1) := dk_46 (dk_at dksX21_goAlong_6 5 rfl rfl)
theorem dX21_goAlong_145 : decode cX21_goAlong 145 = .ok (.goto 5, 3) := dk_167 0 5 (dk_at dksX21_goAlong_6 6 rfl rfl)
theorem dX21_goAlong_148 : decode cX21_goAlong 148 = .ok (.iload 5, 2) := dk_21 5 (dk_at dksX21_goAlong_6 9 rfl rfl)
theorem dX21_goAlong_150 : decode cX21_goAlong 150 = .ok (.iastore, 1) := dk_79 (dk_at dksX21_goAlong_6 11 rfl rfl)
theorem dX21_goAlong_151 : decode cX21_goAlong 151 = .ok (.iinc 4 1, 3) := dk_132 4 1 (dk_at dksX21_goAlong_6 12 rfl rfl)
theorem dX21_goAlong_154 : decode cX21_goAlong 154 = .ok (.goto (-134), 3) := dk_167 255 122 (dk_at dksX21_goAlong_6 15 rfl rfl)
theorem dX21_goAlong_157 : decode cX21_goAlong 157 = .ok (.iinc 2 1, 3) := dk_132 2 1 (dk_at dksX21_goAlong_6 18 rfl rfl)
theorem dX21_goAlong_160 : decode cX21_goAlong 160 = .ok (.goto (-153), 3) := dk_167 255 103 (dk_at dksX21_goAlong_6 21 rfl rfl)
theorem dX21_goAlong_163 : decode cX21_goAlong 163 = .ok (.return_, 1) := dk_177 (dk_at dksX21_goAlong_7 0 rfl rfl)
abbrev cX21_step : ByteArray := prog_6_method_33_code
def yX21_step : MethodName := ⟨RX21, "step", "(II)I"⟩
def dkwX21_step_1 : List UInt8 := [28, 154, 0, 12, 42, 180, 0, 42, 27, 51, 167, 0, 9, 42, 180, 0, 45, 27, 51, 172]
abbrev dktX21_step_1 : List UInt8 := dkwX21_step_1 ++ []
def dkwX21_step_0 : List UInt8 := [27, 155, 0, 20, 27, 42, 180, 0, 48, 162, 0, 12, 28, 155, 0, 8, 28, 4, 164, 0, 6, 16, 254, 172]
abbrev dktX21_step_0 : List UInt8 := dkwX21_step_0 ++ dktX21_step_1
theorem dksX21_step_0 : cX21_step.data.toList.drop 0 = dktX21_step_0 := by decide +kernel
theorem dksX21_step_1 : cX21_step.data.toList.drop 24 = dktX21_step_1 := dk_seg dksX21_step_0 24 rfl rfl
theorem dX21_step_0 : decode cX21_step 0 = .ok (.iload_n 1, 1) := dk_27 (dk_at dksX21_step_0 0 rfl rfl)
theorem dX21_step_1 : decode cX21_step 1 = .ok (.ifCond .lt 20, 3) := dk_155 0 20 (dk_at dksX21_step_0 1 rfl rfl)
theorem dX21_step_4 : decode cX21_step 4 = .ok (.iload_n 1, 1) := dk_27 (dk_at dksX21_step_0 4 rfl rfl)
theorem dX21_step_5 : decode cX21_step 5 = .ok (.aload_n 0, 1) := dk_42 (dk_at dksX21_step_0 5 rfl rfl)
theorem dX21_step_6 : decode cX21_step 6 = .ok (.getfield 48, 3) := dk_180 0 48 (dk_at dksX21_step_0 6 rfl rfl)
theorem dX21_step_9 : decode cX21_step 9 = .ok (.if_icmp .ge 12, 3) := dk_162 0 12 (dk_at dksX21_step_0 9 rfl rfl)
theorem dX21_step_12 : decode cX21_step 12 = .ok (.iload_n 2, 1) := dk_28 (dk_at dksX21_step_0 12 rfl rfl)
theorem dX21_step_13 : decode cX21_step 13 = .ok (.ifCond .lt 8, 3) := dk_155 0 8 (dk_at dksX21_step_0 13 rfl rfl)
theorem dX21_step_16 : decode cX21_step 16 = .ok (.iload_n 2, 1) := dk_28 (dk_at dksX21_step_0 16 rfl rfl)
theorem dX21_step_17 : decode cX21_step 17 = .ok (.iconst 1, 1) := dk_4 (dk_at dksX21_step_0 17 rfl rfl)
theorem dX21_step_18 : decode cX21_step 18 = .ok (.if_icmp .le 6, 3) := dk_164 0 6 (dk_at dksX21_step_0 18 rfl rfl)
theorem dX21_step_21 : decode cX21_step 21 = .ok (.bipush (-2), 2) := dk_16 254 (dk_at dksX21_step_0 21 rfl rfl)
theorem dX21_step_23 : decode cX21_step 23 = .ok (.ireturn, 1) := dk_172 (dk_at dksX21_step_0 23 rfl rfl)
theorem dX21_step_24 : decode cX21_step 24 = .ok (.iload_n 2, 1) := dk_28 (dk_at dksX21_step_1 0 rfl rfl)
theorem dX21_step_25 : decode cX21_step 25 = .ok (.ifCond .ne 12, 3) := dk_154 0 12 (dk_at dksX21_step_1 1 rfl rfl)
theorem dX21_step_28 : decode cX21_step 28 = .ok (.aload_n 0, 1) := dk_42 (dk_at dksX21_step_1 4 rfl rfl)
theorem dX21_step_29 : decode cX21_step 29 = .ok (.getfield 42, 3) := dk_180 0 42 (dk_at dksX21_step_1 5 rfl rfl)
theorem dX21_step_32 : decode cX21_step 32 = .ok (.iload_n 1, 1) := dk_27 (dk_at dksX21_step_1 8 rfl rfl)
theorem dX21_step_33 : decode cX21_step 33 = .ok (.baload, 1) := dk_51 (dk_at dksX21_step_1 9 rfl rfl)
theorem dX21_step_34 : decode cX21_step 34 = .ok (.goto 9, 3) := dk_167 0 9 (dk_at dksX21_step_1 10 rfl rfl)
theorem dX21_step_37 : decode cX21_step 37 = .ok (.aload_n 0, 1) := dk_42 (dk_at dksX21_step_1 13 rfl rfl)
theorem dX21_step_38 : decode cX21_step 38 = .ok (.getfield 45, 3) := dk_180 0 45 (dk_at dksX21_step_1 14 rfl rfl)
theorem dX21_step_41 : decode cX21_step 41 = .ok (.iload_n 1, 1) := dk_27 (dk_at dksX21_step_1 17 rfl rfl)
theorem dX21_step_42 : decode cX21_step 42 = .ok (.baload, 1) := dk_51 (dk_at dksX21_step_1 18 rfl rfl)
theorem dX21_step_43 : decode cX21_step 43 = .ok (.ireturn, 1) := dk_172 (dk_at dksX21_step_1 19 rfl rfl)
abbrev cX21_basin : ByteArray := prog_6_method_34_code
def yX21_basin : MethodName := ⟨RX21, "basin", "(II)J"⟩
def dkwX21_basin_2 : List UInt8 := [133, 173]
abbrev dktX21_basin_2 : List UInt8 := dkwX21_basin_2 ++ []
def dkwX21_basin_1 : List UInt8 := [182, 0, 140, 28, 154, 0, 11, 42, 27, 182, 0, 126, 167, 0, 13, 42, 180, 0, 9, 27, 50, 180, 0, 89]
abbrev dktX21_basin_1 : List UInt8 := dkwX21_basin_1 ++ dktX21_basin_2
def dkwX21_basin_0 : List UInt8 := [42, 27, 182, 0, 150, 153, 0, 12, 28, 155, 0, 8, 28, 4, 164, 0, 7, 20, 0, 196, 173, 42]
abbrev dktX21_basin_0 : List UInt8 := dkwX21_basin_0 ++ dktX21_basin_1
theorem dksX21_basin_0 : cX21_basin.data.toList.drop 0 = dktX21_basin_0 := by decide +kernel
theorem dksX21_basin_1 : cX21_basin.data.toList.drop 22 = dktX21_basin_1 := dk_seg dksX21_basin_0 22 rfl rfl
theorem dksX21_basin_2 : cX21_basin.data.toList.drop 46 = dktX21_basin_2 := dk_seg dksX21_basin_1 24 rfl rfl
theorem dX21_basin_0 : decode cX21_basin 0 = .ok (.aload_n 0, 1) := dk_42 (dk_at dksX21_basin_0 0 rfl rfl)
theorem dX21_basin_1 : decode cX21_basin 1 = .ok (.iload_n 1, 1) := dk_27 (dk_at dksX21_basin_0 1 rfl rfl)
theorem dX21_basin_2 : decode cX21_basin 2 = .ok (.invokevirtual 150, 3) := dk_182 0 150 (dk_at dksX21_basin_0 2 rfl rfl)
theorem dX21_basin_5 : decode cX21_basin 5 = .ok (.ifCond .eq 12, 3) := dk_153 0 12 (dk_at dksX21_basin_0 5 rfl rfl)
theorem dX21_basin_8 : decode cX21_basin 8 = .ok (.iload_n 2, 1) := dk_28 (dk_at dksX21_basin_0 8 rfl rfl)
theorem dX21_basin_9 : decode cX21_basin 9 = .ok (.ifCond .lt 8, 3) := dk_155 0 8 (dk_at dksX21_basin_0 9 rfl rfl)
theorem dX21_basin_12 : decode cX21_basin 12 = .ok (.iload_n 2, 1) := dk_28 (dk_at dksX21_basin_0 12 rfl rfl)
theorem dX21_basin_13 : decode cX21_basin 13 = .ok (.iconst 1, 1) := dk_4 (dk_at dksX21_basin_0 13 rfl rfl)
theorem dX21_basin_14 : decode cX21_basin 14 = .ok (.if_icmp .le 7, 3) := dk_164 0 7 (dk_at dksX21_basin_0 14 rfl rfl)
theorem dX21_basin_17 : decode cX21_basin 17 = .ok (.ldc2_w 196, 3) := dk_20 0 196 (dk_at dksX21_basin_0 17 rfl rfl)
theorem dX21_basin_20 : decode cX21_basin 20 = .ok (.lreturn, 1) := dk_173 (dk_at dksX21_basin_0 20 rfl rfl)
theorem dX21_basin_21 : decode cX21_basin 21 = .ok (.aload_n 0, 1) := dk_42 (dk_at dksX21_basin_0 21 rfl rfl)
theorem dX21_basin_22 : decode cX21_basin 22 = .ok (.invokevirtual 140, 3) := dk_182 0 140 (dk_at dksX21_basin_1 0 rfl rfl)
theorem dX21_basin_25 : decode cX21_basin 25 = .ok (.iload_n 2, 1) := dk_28 (dk_at dksX21_basin_1 3 rfl rfl)
theorem dX21_basin_26 : decode cX21_basin 26 = .ok (.ifCond .ne 11, 3) := dk_154 0 11 (dk_at dksX21_basin_1 4 rfl rfl)
theorem dX21_basin_29 : decode cX21_basin 29 = .ok (.aload_n 0, 1) := dk_42 (dk_at dksX21_basin_1 7 rfl rfl)
theorem dX21_basin_30 : decode cX21_basin 30 = .ok (.iload_n 1, 1) := dk_27 (dk_at dksX21_basin_1 8 rfl rfl)
theorem dX21_basin_31 : decode cX21_basin 31 = .ok (.invokevirtual 126, 3) := dk_182 0 126 (dk_at dksX21_basin_1 9 rfl rfl)
theorem dX21_basin_34 : decode cX21_basin 34 = .ok (.goto 13, 3) := dk_167 0 13 (dk_at dksX21_basin_1 12 rfl rfl)
theorem dX21_basin_37 : decode cX21_basin 37 = .ok (.aload_n 0, 1) := dk_42 (dk_at dksX21_basin_1 15 rfl rfl)
theorem dX21_basin_38 : decode cX21_basin 38 = .ok (.getfield 9, 3) := dk_180 0 9 (dk_at dksX21_basin_1 16 rfl rfl)
theorem dX21_basin_41 : decode cX21_basin 41 = .ok (.iload_n 1, 1) := dk_27 (dk_at dksX21_basin_1 19 rfl rfl)
theorem dX21_basin_42 : decode cX21_basin 42 = .ok (.aaload, 1) := dk_50 (dk_at dksX21_basin_1 20 rfl rfl)
theorem dX21_basin_43 : decode cX21_basin 43 = .ok (.getfield 89, 3) := dk_180 0 89 (dk_at dksX21_basin_1 21 rfl rfl)
theorem dX21_basin_46 : decode cX21_basin 46 = .ok (.i2l, 1) := dk_133 (dk_at dksX21_basin_2 0 rfl rfl)
theorem dX21_basin_47 : decode cX21_basin 47 = .ok (.lreturn, 1) := dk_173 (dk_at dksX21_basin_2 1 rfl rfl)
abbrev cX21_trial : ByteArray := prog_6_method_36_code
def yX21_trial : MethodName := ⟨RX21, "trial", "(IID)I"⟩
def dkwX21_trial_4 : List UInt8 := [167, 0, 4, 3, 172]
abbrev dktX21_trial_4 : List UInt8 := dkwX21_trial_4 ++ []
def dkwX21_trial_3 : List UInt8 := [28, 104, 27, 96, 21, 5, 153, 0, 7, 4, 167, 0, 4, 5, 145, 84, 21, 5, 153, 0, 7, 4]
abbrev dktX21_trial_3 : List UInt8 := dkwX21_trial_3 ++ dktX21_trial_4
def dkwX21_trial_2 : List UInt8 := [16, 6, 27, 104, 28, 96, 21, 5, 153, 0, 7, 4, 167, 0, 4, 5, 145, 84, 42, 180, 0, 29, 16, 6]
abbrev dktX21_trial_2 : List UInt8 := dkwX21_trial_2 ++ dktX21_trial_3
def dkwX21_trial_1 : List UInt8 := [158, 0, 5, 2, 172, 41, 20, 0, 205, 152, 156, 0, 7, 4, 167, 0, 4, 3, 54, 5, 42, 180, 0, 29]
abbrev dktX21_trial_1 : List UInt8 := dkwX21_trial_1 ++ dktX21_trial_2
def dkwX21_trial_0 : List UInt8 := [42, 27, 28, 182, 0, 198, 153, 0, 19, 41, 20, 0, 201, 151, 155, 0, 11, 41, 20, 0, 203, 152]
abbrev dktX21_trial_0 : List UInt8 := dkwX21_trial_0 ++ dktX21_trial_1
theorem dksX21_trial_0 : cX21_trial.data.toList.drop 0 = dktX21_trial_0 := by decide +kernel
theorem dksX21_trial_1 : cX21_trial.data.toList.drop 22 = dktX21_trial_1 := dk_seg dksX21_trial_0 22 rfl rfl
theorem dksX21_trial_2 : cX21_trial.data.toList.drop 46 = dktX21_trial_2 := dk_seg dksX21_trial_1 24 rfl rfl
theorem dksX21_trial_3 : cX21_trial.data.toList.drop 70 = dktX21_trial_3 := dk_seg dksX21_trial_2 24 rfl rfl
theorem dksX21_trial_4 : cX21_trial.data.toList.drop 92 = dktX21_trial_4 := dk_seg dksX21_trial_3 22 rfl rfl
theorem dX21_trial_0 : decode cX21_trial 0 = .ok (.aload_n 0, 1) := dk_42 (dk_at dksX21_trial_0 0 rfl rfl)
theorem dX21_trial_1 : decode cX21_trial 1 = .ok (.iload_n 1, 1) := dk_27 (dk_at dksX21_trial_0 1 rfl rfl)
theorem dX21_trial_2 : decode cX21_trial 2 = .ok (.iload_n 2, 1) := dk_28 (dk_at dksX21_trial_0 2 rfl rfl)
theorem dX21_trial_3 : decode cX21_trial 3 = .ok (.invokevirtual 198, 3) := dk_182 0 198 (dk_at dksX21_trial_0 3 rfl rfl)
theorem dX21_trial_6 : decode cX21_trial 6 = .ok (.ifCond .eq 19, 3) := dk_153 0 19 (dk_at dksX21_trial_0 6 rfl rfl)
theorem dX21_trial_9 : decode cX21_trial 9 = .ok (.dload_n 3, 1) := dk_41 (dk_at dksX21_trial_0 9 rfl rfl)
theorem dX21_trial_10 : decode cX21_trial 10 = .ok (.ldc2_w 201, 3) := dk_20 0 201 (dk_at dksX21_trial_0 10 rfl rfl)
theorem dX21_trial_13 : decode cX21_trial 13 = .ok (.dcmp .l, 1) := dk_151 (dk_at dksX21_trial_0 13 rfl rfl)
theorem dX21_trial_14 : decode cX21_trial 14 = .ok (.ifCond .lt 11, 3) := dk_155 0 11 (dk_at dksX21_trial_0 14 rfl rfl)
theorem dX21_trial_17 : decode cX21_trial 17 = .ok (.dload_n 3, 1) := dk_41 (dk_at dksX21_trial_0 17 rfl rfl)
theorem dX21_trial_18 : decode cX21_trial 18 = .ok (.ldc2_w 203, 3) := dk_20 0 203 (dk_at dksX21_trial_0 18 rfl rfl)
theorem dX21_trial_21 : decode cX21_trial 21 = .ok (.dcmp .g, 1) := dk_152 (dk_at dksX21_trial_0 21 rfl rfl)
theorem dX21_trial_22 : decode cX21_trial 22 = .ok (.ifCond .le 5, 3) := dk_158 0 5 (dk_at dksX21_trial_1 0 rfl rfl)
theorem dX21_trial_25 : decode cX21_trial 25 = .ok (.iconst (-1), 1) := dk_2 (dk_at dksX21_trial_1 3 rfl rfl)
theorem dX21_trial_26 : decode cX21_trial 26 = .ok (.ireturn, 1) := dk_172 (dk_at dksX21_trial_1 4 rfl rfl)
theorem dX21_trial_27 : decode cX21_trial 27 = .ok (.dload_n 3, 1) := dk_41 (dk_at dksX21_trial_1 5 rfl rfl)
theorem dX21_trial_28 : decode cX21_trial 28 = .ok (.ldc2_w 205, 3) := dk_20 0 205 (dk_at dksX21_trial_1 6 rfl rfl)
theorem dX21_trial_31 : decode cX21_trial 31 = .ok (.dcmp .g, 1) := dk_152 (dk_at dksX21_trial_1 9 rfl rfl)
theorem dX21_trial_32 : decode cX21_trial 32 = .ok (.ifCond .ge 7, 3) := dk_156 0 7 (dk_at dksX21_trial_1 10 rfl rfl)
theorem dX21_trial_35 : decode cX21_trial 35 = .ok (.iconst 1, 1) := dk_4 (dk_at dksX21_trial_1 13 rfl rfl)
theorem dX21_trial_36 : decode cX21_trial 36 = .ok (.goto 4, 3) := dk_167 0 4 (dk_at dksX21_trial_1 14 rfl rfl)
theorem dX21_trial_39 : decode cX21_trial 39 = .ok (.iconst 0, 1) := dk_3 (dk_at dksX21_trial_1 17 rfl rfl)
theorem dX21_trial_40 : decode cX21_trial 40 = .ok (.istore 5, 2) := dk_54 5 (dk_at dksX21_trial_1 18 rfl rfl)
theorem dX21_trial_42 : decode cX21_trial 42 = .ok (.aload_n 0, 1) := dk_42 (dk_at dksX21_trial_1 20 rfl rfl)
theorem dX21_trial_43 : decode cX21_trial 43 = .ok (.getfield 29, 3) := dk_180 0 29 (dk_at dksX21_trial_1 21 rfl rfl)
theorem dX21_trial_46 : decode cX21_trial 46 = .ok (.bipush 6, 2) := dk_16 6 (dk_at dksX21_trial_2 0 rfl rfl)
theorem dX21_trial_48 : decode cX21_trial 48 = .ok (.iload_n 1, 1) := dk_27 (dk_at dksX21_trial_2 2 rfl rfl)
theorem dX21_trial_49 : decode cX21_trial 49 = .ok (.imul, 1) := dk_104 (dk_at dksX21_trial_2 3 rfl rfl)
theorem dX21_trial_50 : decode cX21_trial 50 = .ok (.iload_n 2, 1) := dk_28 (dk_at dksX21_trial_2 4 rfl rfl)
theorem dX21_trial_51 : decode cX21_trial 51 = .ok (.iadd, 1) := dk_96 (dk_at dksX21_trial_2 5 rfl rfl)
theorem dX21_trial_52 : decode cX21_trial 52 = .ok (.iload 5, 2) := dk_21 5 (dk_at dksX21_trial_2 6 rfl rfl)
theorem dX21_trial_54 : decode cX21_trial 54 = .ok (.ifCond .eq 7, 3) := dk_153 0 7 (dk_at dksX21_trial_2 8 rfl rfl)
theorem dX21_trial_57 : decode cX21_trial 57 = .ok (.iconst 1, 1) := dk_4 (dk_at dksX21_trial_2 11 rfl rfl)
theorem dX21_trial_58 : decode cX21_trial 58 = .ok (.goto 4, 3) := dk_167 0 4 (dk_at dksX21_trial_2 12 rfl rfl)
theorem dX21_trial_61 : decode cX21_trial 61 = .ok (.iconst 2, 1) := dk_5 (dk_at dksX21_trial_2 15 rfl rfl)
theorem dX21_trial_62 : decode cX21_trial 62 = .ok (.i2b, 1) := dk_145 (dk_at dksX21_trial_2 16 rfl rfl)
theorem dX21_trial_63 : decode cX21_trial 63 = .ok (.bastore, 1) := dk_84 (dk_at dksX21_trial_2 17 rfl rfl)
theorem dX21_trial_64 : decode cX21_trial 64 = .ok (.aload_n 0, 1) := dk_42 (dk_at dksX21_trial_2 18 rfl rfl)
theorem dX21_trial_65 : decode cX21_trial 65 = .ok (.getfield 29, 3) := dk_180 0 29 (dk_at dksX21_trial_2 19 rfl rfl)
theorem dX21_trial_68 : decode cX21_trial 68 = .ok (.bipush 6, 2) := dk_16 6 (dk_at dksX21_trial_2 22 rfl rfl)
theorem dX21_trial_70 : decode cX21_trial 70 = .ok (.iload_n 2, 1) := dk_28 (dk_at dksX21_trial_3 0 rfl rfl)
theorem dX21_trial_71 : decode cX21_trial 71 = .ok (.imul, 1) := dk_104 (dk_at dksX21_trial_3 1 rfl rfl)
theorem dX21_trial_72 : decode cX21_trial 72 = .ok (.iload_n 1, 1) := dk_27 (dk_at dksX21_trial_3 2 rfl rfl)
theorem dX21_trial_73 : decode cX21_trial 73 = .ok (.iadd, 1) := dk_96 (dk_at dksX21_trial_3 3 rfl rfl)
theorem dX21_trial_74 : decode cX21_trial 74 = .ok (.iload 5, 2) := dk_21 5 (dk_at dksX21_trial_3 4 rfl rfl)
theorem dX21_trial_76 : decode cX21_trial 76 = .ok (.ifCond .eq 7, 3) := dk_153 0 7 (dk_at dksX21_trial_3 6 rfl rfl)
theorem dX21_trial_79 : decode cX21_trial 79 = .ok (.iconst 1, 1) := dk_4 (dk_at dksX21_trial_3 9 rfl rfl)
theorem dX21_trial_80 : decode cX21_trial 80 = .ok (.goto 4, 3) := dk_167 0 4 (dk_at dksX21_trial_3 10 rfl rfl)
theorem dX21_trial_83 : decode cX21_trial 83 = .ok (.iconst 2, 1) := dk_5 (dk_at dksX21_trial_3 13 rfl rfl)
theorem dX21_trial_84 : decode cX21_trial 84 = .ok (.i2b, 1) := dk_145 (dk_at dksX21_trial_3 14 rfl rfl)
theorem dX21_trial_85 : decode cX21_trial 85 = .ok (.bastore, 1) := dk_84 (dk_at dksX21_trial_3 15 rfl rfl)
theorem dX21_trial_86 : decode cX21_trial 86 = .ok (.iload 5, 2) := dk_21 5 (dk_at dksX21_trial_3 16 rfl rfl)
theorem dX21_trial_88 : decode cX21_trial 88 = .ok (.ifCond .eq 7, 3) := dk_153 0 7 (dk_at dksX21_trial_3 18 rfl rfl)
theorem dX21_trial_91 : decode cX21_trial 91 = .ok (.iconst 1, 1) := dk_4 (dk_at dksX21_trial_3 21 rfl rfl)
theorem dX21_trial_92 : decode cX21_trial 92 = .ok (.goto 4, 3) := dk_167 0 4 (dk_at dksX21_trial_4 0 rfl rfl)
theorem dX21_trial_95 : decode cX21_trial 95 = .ok (.iconst 0, 1) := dk_3 (dk_at dksX21_trial_4 3 rfl rfl)
theorem dX21_trial_96 : decode cX21_trial 96 = .ok (.ireturn, 1) := dk_172 (dk_at dksX21_trial_4 4 rfl rfl)
abbrev cX21_areTwo : ByteArray := prog_6_method_35_code
def yX21_areTwo : MethodName := ⟨RX21, "areTwo", "(II)Z"⟩
def dkwX21_areTwo_1 : List UInt8 := [167, 0, 4, 3, 172]
abbrev dktX21_areTwo_1 : List UInt8 := dkwX21_areTwo_1 ++ []
def dkwX21_areTwo_0 : List UInt8 := [42, 27, 182, 0, 147, 153, 0, 20, 42, 28, 182, 0, 147, 153, 0, 12, 27, 28, 159, 0, 7, 4]
abbrev dktX21_areTwo_0 : List UInt8 := dkwX21_areTwo_0 ++ dktX21_areTwo_1
theorem dksX21_areTwo_0 : cX21_areTwo.data.toList.drop 0 = dktX21_areTwo_0 := by decide +kernel
theorem dksX21_areTwo_1 : cX21_areTwo.data.toList.drop 22 = dktX21_areTwo_1 := dk_seg dksX21_areTwo_0 22 rfl rfl
theorem dX21_areTwo_0 : decode cX21_areTwo 0 = .ok (.aload_n 0, 1) := dk_42 (dk_at dksX21_areTwo_0 0 rfl rfl)
theorem dX21_areTwo_1 : decode cX21_areTwo 1 = .ok (.iload_n 1, 1) := dk_27 (dk_at dksX21_areTwo_0 1 rfl rfl)
theorem dX21_areTwo_2 : decode cX21_areTwo 2 = .ok (.invokevirtual 147, 3) := dk_182 0 147 (dk_at dksX21_areTwo_0 2 rfl rfl)
theorem dX21_areTwo_5 : decode cX21_areTwo 5 = .ok (.ifCond .eq 20, 3) := dk_153 0 20 (dk_at dksX21_areTwo_0 5 rfl rfl)
theorem dX21_areTwo_8 : decode cX21_areTwo 8 = .ok (.aload_n 0, 1) := dk_42 (dk_at dksX21_areTwo_0 8 rfl rfl)
theorem dX21_areTwo_9 : decode cX21_areTwo 9 = .ok (.iload_n 2, 1) := dk_28 (dk_at dksX21_areTwo_0 9 rfl rfl)
theorem dX21_areTwo_10 : decode cX21_areTwo 10 = .ok (.invokevirtual 147, 3) := dk_182 0 147 (dk_at dksX21_areTwo_0 10 rfl rfl)
theorem dX21_areTwo_13 : decode cX21_areTwo 13 = .ok (.ifCond .eq 12, 3) := dk_153 0 12 (dk_at dksX21_areTwo_0 13 rfl rfl)
theorem dX21_areTwo_16 : decode cX21_areTwo 16 = .ok (.iload_n 1, 1) := dk_27 (dk_at dksX21_areTwo_0 16 rfl rfl)
theorem dX21_areTwo_17 : decode cX21_areTwo 17 = .ok (.iload_n 2, 1) := dk_28 (dk_at dksX21_areTwo_0 17 rfl rfl)
theorem dX21_areTwo_18 : decode cX21_areTwo 18 = .ok (.if_icmp .eq 7, 3) := dk_159 0 7 (dk_at dksX21_areTwo_0 18 rfl rfl)
theorem dX21_areTwo_21 : decode cX21_areTwo 21 = .ok (.iconst 1, 1) := dk_4 (dk_at dksX21_areTwo_0 21 rfl rfl)
theorem dX21_areTwo_22 : decode cX21_areTwo 22 = .ok (.goto 4, 3) := dk_167 0 4 (dk_at dksX21_areTwo_1 0 rfl rfl)
theorem dX21_areTwo_25 : decode cX21_areTwo 25 = .ok (.iconst 0, 1) := dk_3 (dk_at dksX21_areTwo_1 3 rfl rfl)
theorem dX21_areTwo_26 : decode cX21_areTwo 26 = .ok (.ireturn, 1) := dk_172 (dk_at dksX21_areTwo_1 4 rfl rfl)
abbrev cX21_mix : ByteArray := prog_6_method_37_code
def yX21_mix : MethodName := ⟨RX21, "mix", "(II)I"⟩
def dkwX21_mix_8 : List UInt8 := [182, 0, 207, 132, 6, 1, 167, 255, 232, 3, 172]
abbrev dktX21_mix_8 : List UInt8 := dkwX21_mix_8 ++ []
def dkwX21_mix_7 : List UInt8 := [181, 0, 61, 3, 54, 6, 21, 6, 16, 6, 162, 0, 23, 42, 27, 21, 6, 182, 0, 207, 42, 28, 21, 6]
abbrev dktX21_mix_7 : List UInt8 := dkwX21_mix_7 ++ dktX21_mix_8
def dkwX21_mix_6 : List UInt8 := [180, 0, 103, 25, 4, 180, 0, 103, 101, 181, 0, 103, 7, 172, 25, 4, 3, 181, 0, 106, 25, 4, 4]
abbrev dktX21_mix_6 : List UInt8 := dkwX21_mix_6 ++ dktX21_mix_7
def dkwX21_mix_5 : List UInt8 := [182, 0, 143, 154, 0, 33, 45, 89, 180, 0, 99, 25, 4, 180, 0, 99, 101, 181, 0, 99, 45, 89]
abbrev dktX21_mix_5 : List UInt8 := dkwX21_mix_5 ++ dktX21_mix_6
def dkwX21_mix_4 : List UInt8 := [180, 0, 99, 97, 181, 0, 99, 45, 89, 180, 0, 103, 25, 4, 180, 0, 103, 97, 181, 0, 103, 42]
abbrev dktX21_mix_4 : List UInt8 := dkwX21_mix_4 ++ dktX21_mix_5
def dkwX21_mix_3 : List UInt8 := [158, 0, 5, 6, 172, 42, 182, 0, 140, 42, 180, 0, 33, 28, 3, 79, 45, 89, 180, 0, 99, 25, 4]
abbrev dktX21_mix_3 : List UInt8 := dkwX21_mix_3 ++ dktX21_mix_4
def dkwX21_mix_2 : List UInt8 := [4, 122, 96, 172, 42, 180, 0, 21, 16, 6, 45, 180, 0, 96, 104, 25, 4, 180, 0, 96, 96, 53]
abbrev dktX21_mix_2 : List UInt8 := dkwX21_mix_2 ++ dktX21_mix_3
def dkwX21_mix_1 : List UInt8 := [58, 4, 42, 180, 0, 29, 16, 6, 27, 104, 28, 96, 51, 54, 5, 21, 5, 4, 159, 0, 10, 4, 21, 5]
abbrev dktX21_mix_1 : List UInt8 := dkwX21_mix_1 ++ dktX21_mix_2
def dkwX21_mix_0 : List UInt8 := [42, 27, 28, 182, 0, 198, 154, 0, 5, 2, 172, 42, 180, 0, 17, 27, 50, 78, 42, 180, 0, 17, 28, 50]
abbrev dktX21_mix_0 : List UInt8 := dkwX21_mix_0 ++ dktX21_mix_1
theorem dksX21_mix_0 : cX21_mix.data.toList.drop 0 = dktX21_mix_0 := by decide +kernel
theorem dksX21_mix_1 : cX21_mix.data.toList.drop 24 = dktX21_mix_1 := dk_seg dksX21_mix_0 24 rfl rfl
theorem dksX21_mix_2 : cX21_mix.data.toList.drop 48 = dktX21_mix_2 := dk_seg dksX21_mix_1 24 rfl rfl
theorem dksX21_mix_3 : cX21_mix.data.toList.drop 70 = dktX21_mix_3 := dk_seg dksX21_mix_2 22 rfl rfl
theorem dksX21_mix_4 : cX21_mix.data.toList.drop 93 = dktX21_mix_4 := dk_seg dksX21_mix_3 23 rfl rfl
theorem dksX21_mix_5 : cX21_mix.data.toList.drop 115 = dktX21_mix_5 := dk_seg dksX21_mix_4 22 rfl rfl
theorem dksX21_mix_6 : cX21_mix.data.toList.drop 137 = dktX21_mix_6 := dk_seg dksX21_mix_5 22 rfl rfl
theorem dksX21_mix_7 : cX21_mix.data.toList.drop 160 = dktX21_mix_7 := dk_seg dksX21_mix_6 23 rfl rfl
theorem dksX21_mix_8 : cX21_mix.data.toList.drop 184 = dktX21_mix_8 := dk_seg dksX21_mix_7 24 rfl rfl
theorem dX21_mix_0 : decode cX21_mix 0 = .ok (.aload_n 0, 1) := dk_42 (dk_at dksX21_mix_0 0 rfl rfl)
theorem dX21_mix_1 : decode cX21_mix 1 = .ok (.iload_n 1, 1) := dk_27 (dk_at dksX21_mix_0 1 rfl rfl)
theorem dX21_mix_2 : decode cX21_mix 2 = .ok (.iload_n 2, 1) := dk_28 (dk_at dksX21_mix_0 2 rfl rfl)
theorem dX21_mix_3 : decode cX21_mix 3 = .ok (.invokevirtual 198, 3) := dk_182 0 198 (dk_at dksX21_mix_0 3 rfl rfl)
theorem dX21_mix_6 : decode cX21_mix 6 = .ok (.ifCond .ne 5, 3) := dk_154 0 5 (dk_at dksX21_mix_0 6 rfl rfl)
theorem dX21_mix_9 : decode cX21_mix 9 = .ok (.iconst (-1), 1) := dk_2 (dk_at dksX21_mix_0 9 rfl rfl)
theorem dX21_mix_10 : decode cX21_mix 10 = .ok (.ireturn, 1) := dk_172 (dk_at dksX21_mix_0 10 rfl rfl)
theorem dX21_mix_11 : decode cX21_mix 11 = .ok (.aload_n 0, 1) := dk_42 (dk_at dksX21_mix_0 11 rfl rfl)
theorem dX21_mix_12 : decode cX21_mix 12 = .ok (.getfield 17, 3) := dk_180 0 17 (dk_at dksX21_mix_0 12 rfl rfl)
theorem dX21_mix_15 : decode cX21_mix 15 = .ok (.iload_n 1, 1) := dk_27 (dk_at dksX21_mix_0 15 rfl rfl)
theorem dX21_mix_16 : decode cX21_mix 16 = .ok (.aaload, 1) := dk_50 (dk_at dksX21_mix_0 16 rfl rfl)
theorem dX21_mix_17 : decode cX21_mix 17 = .ok (.astore_n 3, 1) := dk_78 (dk_at dksX21_mix_0 17 rfl rfl)
theorem dX21_mix_18 : decode cX21_mix 18 = .ok (.aload_n 0, 1) := dk_42 (dk_at dksX21_mix_0 18 rfl rfl)
theorem dX21_mix_19 : decode cX21_mix 19 = .ok (.getfield 17, 3) := dk_180 0 17 (dk_at dksX21_mix_0 19 rfl rfl)
theorem dX21_mix_22 : decode cX21_mix 22 = .ok (.iload_n 2, 1) := dk_28 (dk_at dksX21_mix_0 22 rfl rfl)
theorem dX21_mix_23 : decode cX21_mix 23 = .ok (.aaload, 1) := dk_50 (dk_at dksX21_mix_0 23 rfl rfl)
theorem dX21_mix_24 : decode cX21_mix 24 = .ok (.astore 4, 2) := dk_58 4 (dk_at dksX21_mix_1 0 rfl rfl)
theorem dX21_mix_26 : decode cX21_mix 26 = .ok (.aload_n 0, 1) := dk_42 (dk_at dksX21_mix_1 2 rfl rfl)
theorem dX21_mix_27 : decode cX21_mix 27 = .ok (.getfield 29, 3) := dk_180 0 29 (dk_at dksX21_mix_1 3 rfl rfl)
theorem dX21_mix_30 : decode cX21_mix 30 = .ok (.bipush 6, 2) := dk_16 6 (dk_at dksX21_mix_1 6 rfl rfl)
theorem dX21_mix_32 : decode cX21_mix 32 = .ok (.iload_n 1, 1) := dk_27 (dk_at dksX21_mix_1 8 rfl rfl)
theorem dX21_mix_33 : decode cX21_mix 33 = .ok (.imul, 1) := dk_104 (dk_at dksX21_mix_1 9 rfl rfl)
theorem dX21_mix_34 : decode cX21_mix 34 = .ok (.iload_n 2, 1) := dk_28 (dk_at dksX21_mix_1 10 rfl rfl)
theorem dX21_mix_35 : decode cX21_mix 35 = .ok (.iadd, 1) := dk_96 (dk_at dksX21_mix_1 11 rfl rfl)
theorem dX21_mix_36 : decode cX21_mix 36 = .ok (.baload, 1) := dk_51 (dk_at dksX21_mix_1 12 rfl rfl)
theorem dX21_mix_37 : decode cX21_mix 37 = .ok (.istore 5, 2) := dk_54 5 (dk_at dksX21_mix_1 13 rfl rfl)
theorem dX21_mix_39 : decode cX21_mix 39 = .ok (.iload 5, 2) := dk_21 5 (dk_at dksX21_mix_1 15 rfl rfl)
theorem dX21_mix_41 : decode cX21_mix 41 = .ok (.iconst 1, 1) := dk_4 (dk_at dksX21_mix_1 17 rfl rfl)
theorem dX21_mix_42 : decode cX21_mix 42 = .ok (.if_icmp .eq 10, 3) := dk_159 0 10 (dk_at dksX21_mix_1 18 rfl rfl)
theorem dX21_mix_45 : decode cX21_mix 45 = .ok (.iconst 1, 1) := dk_4 (dk_at dksX21_mix_1 21 rfl rfl)
theorem dX21_mix_46 : decode cX21_mix 46 = .ok (.iload 5, 2) := dk_21 5 (dk_at dksX21_mix_1 22 rfl rfl)
theorem dX21_mix_48 : decode cX21_mix 48 = .ok (.iconst 1, 1) := dk_4 (dk_at dksX21_mix_2 0 rfl rfl)
theorem dX21_mix_49 : decode cX21_mix 49 = .ok (.ishr, 1) := dk_122 (dk_at dksX21_mix_2 1 rfl rfl)
theorem dX21_mix_50 : decode cX21_mix 50 = .ok (.iadd, 1) := dk_96 (dk_at dksX21_mix_2 2 rfl rfl)
theorem dX21_mix_51 : decode cX21_mix 51 = .ok (.ireturn, 1) := dk_172 (dk_at dksX21_mix_2 3 rfl rfl)
theorem dX21_mix_52 : decode cX21_mix 52 = .ok (.aload_n 0, 1) := dk_42 (dk_at dksX21_mix_2 4 rfl rfl)
theorem dX21_mix_53 : decode cX21_mix 53 = .ok (.getfield 21, 3) := dk_180 0 21 (dk_at dksX21_mix_2 5 rfl rfl)
theorem dX21_mix_56 : decode cX21_mix 56 = .ok (.bipush 6, 2) := dk_16 6 (dk_at dksX21_mix_2 8 rfl rfl)
theorem dX21_mix_58 : decode cX21_mix 58 = .ok (.aload_n 3, 1) := dk_45 (dk_at dksX21_mix_2 10 rfl rfl)
theorem dX21_mix_59 : decode cX21_mix 59 = .ok (.getfield 96, 3) := dk_180 0 96 (dk_at dksX21_mix_2 11 rfl rfl)
theorem dX21_mix_62 : decode cX21_mix 62 = .ok (.imul, 1) := dk_104 (dk_at dksX21_mix_2 14 rfl rfl)
theorem dX21_mix_63 : decode cX21_mix 63 = .ok (.aload 4, 2) := dk_25 4 (dk_at dksX21_mix_2 15 rfl rfl)
theorem dX21_mix_65 : decode cX21_mix 65 = .ok (.getfield 96, 3) := dk_180 0 96 (dk_at dksX21_mix_2 17 rfl rfl)
theorem dX21_mix_68 : decode cX21_mix 68 = .ok (.iadd, 1) := dk_96 (dk_at dksX21_mix_2 20 rfl rfl)
theorem dX21_mix_69 : decode cX21_mix 69 = .ok (.saload, 1) := dk_53 (dk_at dksX21_mix_2 21 rfl rfl)
theorem dX21_mix_70 : decode cX21_mix 70 = .ok (.ifCond .le 5, 3) := dk_158 0 5 (dk_at dksX21_mix_3 0 rfl rfl)
theorem dX21_mix_73 : decode cX21_mix 73 = .ok (.iconst 3, 1) := dk_6 (dk_at dksX21_mix_3 3 rfl rfl)
theorem dX21_mix_74 : decode cX21_mix 74 = .ok (.ireturn, 1) := dk_172 (dk_at dksX21_mix_3 4 rfl rfl)
theorem dX21_mix_75 : decode cX21_mix 75 = .ok (.aload_n 0, 1) := dk_42 (dk_at dksX21_mix_3 5 rfl rfl)
theorem dX21_mix_76 : decode cX21_mix 76 = .ok (.invokevirtual 140, 3) := dk_182 0 140 (dk_at dksX21_mix_3 6 rfl rfl)
theorem dX21_mix_79 : decode cX21_mix 79 = .ok (.aload_n 0, 1) := dk_42 (dk_at dksX21_mix_3 9 rfl rfl)
theorem dX21_mix_80 : decode cX21_mix 80 = .ok (.getfield 33, 3) := dk_180 0 33 (dk_at dksX21_mix_3 10 rfl rfl)
theorem dX21_mix_83 : decode cX21_mix 83 = .ok (.iload_n 2, 1) := dk_28 (dk_at dksX21_mix_3 13 rfl rfl)
theorem dX21_mix_84 : decode cX21_mix 84 = .ok (.iconst 0, 1) := dk_3 (dk_at dksX21_mix_3 14 rfl rfl)
theorem dX21_mix_85 : decode cX21_mix 85 = .ok (.iastore, 1) := dk_79 (dk_at dksX21_mix_3 15 rfl rfl)
theorem dX21_mix_86 : decode cX21_mix 86 = .ok (.aload_n 3, 1) := dk_45 (dk_at dksX21_mix_3 16 rfl rfl)
theorem dX21_mix_87 : decode cX21_mix 87 = .ok (.dup, 1) := dk_89 (dk_at dksX21_mix_3 17 rfl rfl)
theorem dX21_mix_88 : decode cX21_mix 88 = .ok (.getfield 99, 3) := dk_180 0 99 (dk_at dksX21_mix_3 18 rfl rfl)
theorem dX21_mix_91 : decode cX21_mix 91 = .ok (.aload 4, 2) := dk_25 4 (dk_at dksX21_mix_3 21 rfl rfl)
theorem dX21_mix_93 : decode cX21_mix 93 = .ok (.getfield 99, 3) := dk_180 0 99 (dk_at dksX21_mix_4 0 rfl rfl)
theorem dX21_mix_96 : decode cX21_mix 96 = .ok (.ladd, 1) := dk_97 (dk_at dksX21_mix_4 3 rfl rfl)
theorem dX21_mix_97 : decode cX21_mix 97 = .ok (.putfield 99, 3) := dk_181 0 99 (dk_at dksX21_mix_4 4 rfl rfl)
theorem dX21_mix_100 : decode cX21_mix 100 = .ok (.aload_n 3, 1) := dk_45 (dk_at dksX21_mix_4 7 rfl rfl)
theorem dX21_mix_101 : decode cX21_mix 101 = .ok (.dup, 1) := dk_89 (dk_at dksX21_mix_4 8 rfl rfl)
theorem dX21_mix_102 : decode cX21_mix 102 = .ok (.getfield 103, 3) := dk_180 0 103 (dk_at dksX21_mix_4 9 rfl rfl)
theorem dX21_mix_105 : decode cX21_mix 105 = .ok (.aload 4, 2) := dk_25 4 (dk_at dksX21_mix_4 12 rfl rfl)
theorem dX21_mix_107 : decode cX21_mix 107 = .ok (.getfield 103, 3) := dk_180 0 103 (dk_at dksX21_mix_4 14 rfl rfl)
theorem dX21_mix_110 : decode cX21_mix 110 = .ok (.ladd, 1) := dk_97 (dk_at dksX21_mix_4 17 rfl rfl)
theorem dX21_mix_111 : decode cX21_mix 111 = .ok (.putfield 103, 3) := dk_181 0 103 (dk_at dksX21_mix_4 18 rfl rfl)
theorem dX21_mix_114 : decode cX21_mix 114 = .ok (.aload_n 0, 1) := dk_42 (dk_at dksX21_mix_4 21 rfl rfl)
theorem dX21_mix_115 : decode cX21_mix 115 = .ok (.invokevirtual 143, 3) := dk_182 0 143 (dk_at dksX21_mix_5 0 rfl rfl)
theorem dX21_mix_118 : decode cX21_mix 118 = .ok (.ifCond .ne 33, 3) := dk_154 0 33 (dk_at dksX21_mix_5 3 rfl rfl)
theorem dX21_mix_121 : decode cX21_mix 121 = .ok (.aload_n 3, 1) := dk_45 (dk_at dksX21_mix_5 6 rfl rfl)
theorem dX21_mix_122 : decode cX21_mix 122 = .ok (.dup, 1) := dk_89 (dk_at dksX21_mix_5 7 rfl rfl)
theorem dX21_mix_123 : decode cX21_mix 123 = .ok (.getfield 99, 3) := dk_180 0 99 (dk_at dksX21_mix_5 8 rfl rfl)
theorem dX21_mix_126 : decode cX21_mix 126 = .ok (.aload 4, 2) := dk_25 4 (dk_at dksX21_mix_5 11 rfl rfl)
theorem dX21_mix_128 : decode cX21_mix 128 = .ok (.getfield 99, 3) := dk_180 0 99 (dk_at dksX21_mix_5 13 rfl rfl)
theorem dX21_mix_131 : decode cX21_mix 131 = .ok (.lsub, 1) := dk_101 (dk_at dksX21_mix_5 16 rfl rfl)
theorem dX21_mix_132 : decode cX21_mix 132 = .ok (.putfield 99, 3) := dk_181 0 99 (dk_at dksX21_mix_5 17 rfl rfl)
theorem dX21_mix_135 : decode cX21_mix 135 = .ok (.aload_n 3, 1) := dk_45 (dk_at dksX21_mix_5 20 rfl rfl)
theorem dX21_mix_136 : decode cX21_mix 136 = .ok (.dup, 1) := dk_89 (dk_at dksX21_mix_5 21 rfl rfl)
theorem dX21_mix_137 : decode cX21_mix 137 = .ok (.getfield 103, 3) := dk_180 0 103 (dk_at dksX21_mix_6 0 rfl rfl)
theorem dX21_mix_140 : decode cX21_mix 140 = .ok (.aload 4, 2) := dk_25 4 (dk_at dksX21_mix_6 3 rfl rfl)
theorem dX21_mix_142 : decode cX21_mix 142 = .ok (.getfield 103, 3) := dk_180 0 103 (dk_at dksX21_mix_6 5 rfl rfl)
theorem dX21_mix_145 : decode cX21_mix 145 = .ok (.lsub, 1) := dk_101 (dk_at dksX21_mix_6 8 rfl rfl)
theorem dX21_mix_146 : decode cX21_mix 146 = .ok (.putfield 103, 3) := dk_181 0 103 (dk_at dksX21_mix_6 9 rfl rfl)
theorem dX21_mix_149 : decode cX21_mix 149 = .ok (.iconst 4, 1) := dk_7 (dk_at dksX21_mix_6 12 rfl rfl)
theorem dX21_mix_150 : decode cX21_mix 150 = .ok (.ireturn, 1) := dk_172 (dk_at dksX21_mix_6 13 rfl rfl)
theorem dX21_mix_151 : decode cX21_mix 151 = .ok (.aload 4, 2) := dk_25 4 (dk_at dksX21_mix_6 14 rfl rfl)
theorem dX21_mix_153 : decode cX21_mix 153 = .ok (.iconst 0, 1) := dk_3 (dk_at dksX21_mix_6 16 rfl rfl)
theorem dX21_mix_154 : decode cX21_mix 154 = .ok (.putfield 106, 3) := dk_181 0 106 (dk_at dksX21_mix_6 17 rfl rfl)
theorem dX21_mix_157 : decode cX21_mix 157 = .ok (.aload 4, 2) := dk_25 4 (dk_at dksX21_mix_6 20 rfl rfl)
theorem dX21_mix_159 : decode cX21_mix 159 = .ok (.iconst 1, 1) := dk_4 (dk_at dksX21_mix_6 22 rfl rfl)
theorem dX21_mix_160 : decode cX21_mix 160 = .ok (.putfield 61, 3) := dk_181 0 61 (dk_at dksX21_mix_7 0 rfl rfl)
theorem dX21_mix_163 : decode cX21_mix 163 = .ok (.iconst 0, 1) := dk_3 (dk_at dksX21_mix_7 3 rfl rfl)
theorem dX21_mix_164 : decode cX21_mix 164 = .ok (.istore 6, 2) := dk_54 6 (dk_at dksX21_mix_7 4 rfl rfl)
theorem dX21_mix_166 : decode cX21_mix 166 = .ok (.iload 6, 2) := dk_21 6 (dk_at dksX21_mix_7 6 rfl rfl)
theorem dX21_mix_168 : decode cX21_mix 168 = .ok (.bipush 6, 2) := dk_16 6 (dk_at dksX21_mix_7 8 rfl rfl)
theorem dX21_mix_170 : decode cX21_mix 170 = .ok (.if_icmp .ge 23, 3) := dk_162 0 23 (dk_at dksX21_mix_7 10 rfl rfl)
theorem dX21_mix_173 : decode cX21_mix 173 = .ok (.aload_n 0, 1) := dk_42 (dk_at dksX21_mix_7 13 rfl rfl)
theorem dX21_mix_174 : decode cX21_mix 174 = .ok (.iload_n 1, 1) := dk_27 (dk_at dksX21_mix_7 14 rfl rfl)
theorem dX21_mix_175 : decode cX21_mix 175 = .ok (.iload 6, 2) := dk_21 6 (dk_at dksX21_mix_7 15 rfl rfl)
theorem dX21_mix_177 : decode cX21_mix 177 = .ok (.invokevirtual 207, 3) := dk_182 0 207 (dk_at dksX21_mix_7 17 rfl rfl)
theorem dX21_mix_180 : decode cX21_mix 180 = .ok (.aload_n 0, 1) := dk_42 (dk_at dksX21_mix_7 20 rfl rfl)
theorem dX21_mix_181 : decode cX21_mix 181 = .ok (.iload_n 2, 1) := dk_28 (dk_at dksX21_mix_7 21 rfl rfl)
theorem dX21_mix_182 : decode cX21_mix 182 = .ok (.iload 6, 2) := dk_21 6 (dk_at dksX21_mix_7 22 rfl rfl)
theorem dX21_mix_184 : decode cX21_mix 184 = .ok (.invokevirtual 207, 3) := dk_182 0 207 (dk_at dksX21_mix_8 0 rfl rfl)
theorem dX21_mix_187 : decode cX21_mix 187 = .ok (.iinc 6 1, 3) := dk_132 6 1 (dk_at dksX21_mix_8 3 rfl rfl)
theorem dX21_mix_190 : decode cX21_mix 190 = .ok (.goto (-24), 3) := dk_167 255 232 (dk_at dksX21_mix_8 6 rfl rfl)
theorem dX21_mix_193 : decode cX21_mix 193 = .ok (.iconst 0, 1) := dk_3 (dk_at dksX21_mix_8 9 rfl rfl)
theorem dX21_mix_194 : decode cX21_mix 194 = .ok (.ireturn, 1) := dk_172 (dk_at dksX21_mix_8 10 rfl rfl)
abbrev cX21_forget : ByteArray := prog_6_method_38_code
def yX21_forget : MethodName := ⟨RX21, "forget", "(II)V"⟩
def dkwX21_forget_1 : List UInt8 := [177]
abbrev dktX21_forget_1 : List UInt8 := dkwX21_forget_1 ++ []
def dkwX21_forget_0 : List UInt8 := [42, 180, 0, 29, 16, 6, 27, 104, 28, 96, 3, 84, 42, 180, 0, 29, 16, 6, 28, 104, 27, 96, 3, 84]
abbrev dktX21_forget_0 : List UInt8 := dkwX21_forget_0 ++ dktX21_forget_1
theorem dksX21_forget_0 : cX21_forget.data.toList.drop 0 = dktX21_forget_0 := by decide +kernel
theorem dksX21_forget_1 : cX21_forget.data.toList.drop 24 = dktX21_forget_1 := dk_seg dksX21_forget_0 24 rfl rfl
theorem dX21_forget_0 : decode cX21_forget 0 = .ok (.aload_n 0, 1) := dk_42 (dk_at dksX21_forget_0 0 rfl rfl)
theorem dX21_forget_1 : decode cX21_forget 1 = .ok (.getfield 29, 3) := dk_180 0 29 (dk_at dksX21_forget_0 1 rfl rfl)
theorem dX21_forget_4 : decode cX21_forget 4 = .ok (.bipush 6, 2) := dk_16 6 (dk_at dksX21_forget_0 4 rfl rfl)
theorem dX21_forget_6 : decode cX21_forget 6 = .ok (.iload_n 1, 1) := dk_27 (dk_at dksX21_forget_0 6 rfl rfl)
theorem dX21_forget_7 : decode cX21_forget 7 = .ok (.imul, 1) := dk_104 (dk_at dksX21_forget_0 7 rfl rfl)
theorem dX21_forget_8 : decode cX21_forget 8 = .ok (.iload_n 2, 1) := dk_28 (dk_at dksX21_forget_0 8 rfl rfl)
theorem dX21_forget_9 : decode cX21_forget 9 = .ok (.iadd, 1) := dk_96 (dk_at dksX21_forget_0 9 rfl rfl)
theorem dX21_forget_10 : decode cX21_forget 10 = .ok (.iconst 0, 1) := dk_3 (dk_at dksX21_forget_0 10 rfl rfl)
theorem dX21_forget_11 : decode cX21_forget 11 = .ok (.bastore, 1) := dk_84 (dk_at dksX21_forget_0 11 rfl rfl)
theorem dX21_forget_12 : decode cX21_forget 12 = .ok (.aload_n 0, 1) := dk_42 (dk_at dksX21_forget_0 12 rfl rfl)
theorem dX21_forget_13 : decode cX21_forget 13 = .ok (.getfield 29, 3) := dk_180 0 29 (dk_at dksX21_forget_0 13 rfl rfl)
theorem dX21_forget_16 : decode cX21_forget 16 = .ok (.bipush 6, 2) := dk_16 6 (dk_at dksX21_forget_0 16 rfl rfl)
theorem dX21_forget_18 : decode cX21_forget 18 = .ok (.iload_n 2, 1) := dk_28 (dk_at dksX21_forget_0 18 rfl rfl)
theorem dX21_forget_19 : decode cX21_forget 19 = .ok (.imul, 1) := dk_104 (dk_at dksX21_forget_0 19 rfl rfl)
theorem dX21_forget_20 : decode cX21_forget 20 = .ok (.iload_n 1, 1) := dk_27 (dk_at dksX21_forget_0 20 rfl rfl)
theorem dX21_forget_21 : decode cX21_forget 21 = .ok (.iadd, 1) := dk_96 (dk_at dksX21_forget_0 21 rfl rfl)
theorem dX21_forget_22 : decode cX21_forget 22 = .ok (.iconst 0, 1) := dk_3 (dk_at dksX21_forget_0 22 rfl rfl)
theorem dX21_forget_23 : decode cX21_forget 23 = .ok (.bastore, 1) := dk_84 (dk_at dksX21_forget_0 23 rfl rfl)
theorem dX21_forget_24 : decode cX21_forget 24 = .ok (.return_, 1) := dk_177 (dk_at dksX21_forget_1 0 rfl rfl)
abbrev cX21_key : ByteArray := prog_6_method_40_code
def yX21_key : MethodName := ⟨RX21, "key", "(II)Z"⟩
def dkwX21_key_1 : List UInt8 := [3, 172, 42, 180, 0, 9, 27, 50, 89, 180, 0, 216, 4, 28, 120, 128, 181, 0, 216, 4, 172]
abbrev dktX21_key_1 : List UInt8 := dkwX21_key_1 ++ []
def dkwX21_key_0 : List UInt8 := [42, 27, 182, 0, 150, 153, 0, 19, 28, 184, 0, 210, 153, 0, 12, 42, 27, 28, 182, 0, 213, 153, 0, 5]
abbrev dktX21_key_0 : List UInt8 := dkwX21_key_0 ++ dktX21_key_1
theorem dksX21_key_0 : cX21_key.data.toList.drop 0 = dktX21_key_0 := by decide +kernel
theorem dksX21_key_1 : cX21_key.data.toList.drop 24 = dktX21_key_1 := dk_seg dksX21_key_0 24 rfl rfl
theorem dX21_key_0 : decode cX21_key 0 = .ok (.aload_n 0, 1) := dk_42 (dk_at dksX21_key_0 0 rfl rfl)
theorem dX21_key_1 : decode cX21_key 1 = .ok (.iload_n 1, 1) := dk_27 (dk_at dksX21_key_0 1 rfl rfl)
theorem dX21_key_2 : decode cX21_key 2 = .ok (.invokevirtual 150, 3) := dk_182 0 150 (dk_at dksX21_key_0 2 rfl rfl)
theorem dX21_key_5 : decode cX21_key 5 = .ok (.ifCond .eq 19, 3) := dk_153 0 19 (dk_at dksX21_key_0 5 rfl rfl)
theorem dX21_key_8 : decode cX21_key 8 = .ok (.iload_n 2, 1) := dk_28 (dk_at dksX21_key_0 8 rfl rfl)
theorem dX21_key_9 : decode cX21_key 9 = .ok (.invokestatic 210, 3) := dk_184 0 210 (dk_at dksX21_key_0 9 rfl rfl)
theorem dX21_key_12 : decode cX21_key 12 = .ok (.ifCond .eq 12, 3) := dk_153 0 12 (dk_at dksX21_key_0 12 rfl rfl)
theorem dX21_key_15 : decode cX21_key 15 = .ok (.aload_n 0, 1) := dk_42 (dk_at dksX21_key_0 15 rfl rfl)
theorem dX21_key_16 : decode cX21_key 16 = .ok (.iload_n 1, 1) := dk_27 (dk_at dksX21_key_0 16 rfl rfl)
theorem dX21_key_17 : decode cX21_key 17 = .ok (.iload_n 2, 1) := dk_28 (dk_at dksX21_key_0 17 rfl rfl)
theorem dX21_key_18 : decode cX21_key 18 = .ok (.invokevirtual 213, 3) := dk_182 0 213 (dk_at dksX21_key_0 18 rfl rfl)
theorem dX21_key_21 : decode cX21_key 21 = .ok (.ifCond .eq 5, 3) := dk_153 0 5 (dk_at dksX21_key_0 21 rfl rfl)
theorem dX21_key_24 : decode cX21_key 24 = .ok (.iconst 0, 1) := dk_3 (dk_at dksX21_key_1 0 rfl rfl)
theorem dX21_key_25 : decode cX21_key 25 = .ok (.ireturn, 1) := dk_172 (dk_at dksX21_key_1 1 rfl rfl)
theorem dX21_key_26 : decode cX21_key 26 = .ok (.aload_n 0, 1) := dk_42 (dk_at dksX21_key_1 2 rfl rfl)
theorem dX21_key_27 : decode cX21_key 27 = .ok (.getfield 9, 3) := dk_180 0 9 (dk_at dksX21_key_1 3 rfl rfl)
theorem dX21_key_30 : decode cX21_key 30 = .ok (.iload_n 1, 1) := dk_27 (dk_at dksX21_key_1 6 rfl rfl)
theorem dX21_key_31 : decode cX21_key 31 = .ok (.aaload, 1) := dk_50 (dk_at dksX21_key_1 7 rfl rfl)
theorem dX21_key_32 : decode cX21_key 32 = .ok (.dup, 1) := dk_89 (dk_at dksX21_key_1 8 rfl rfl)
theorem dX21_key_33 : decode cX21_key 33 = .ok (.getfield 216, 3) := dk_180 0 216 (dk_at dksX21_key_1 9 rfl rfl)
theorem dX21_key_36 : decode cX21_key 36 = .ok (.iconst 1, 1) := dk_4 (dk_at dksX21_key_1 12 rfl rfl)
theorem dX21_key_37 : decode cX21_key 37 = .ok (.iload_n 2, 1) := dk_28 (dk_at dksX21_key_1 13 rfl rfl)
theorem dX21_key_38 : decode cX21_key 38 = .ok (.ishl, 1) := dk_120 (dk_at dksX21_key_1 14 rfl rfl)
theorem dX21_key_39 : decode cX21_key 39 = .ok (.ior, 1) := dk_128 (dk_at dksX21_key_1 15 rfl rfl)
theorem dX21_key_40 : decode cX21_key 40 = .ok (.putfield 216, 3) := dk_181 0 216 (dk_at dksX21_key_1 16 rfl rfl)
theorem dX21_key_43 : decode cX21_key 43 = .ok (.iconst 1, 1) := dk_4 (dk_at dksX21_key_1 19 rfl rfl)
theorem dX21_key_44 : decode cX21_key 44 = .ok (.ireturn, 1) := dk_172 (dk_at dksX21_key_1 20 rfl rfl)
abbrev cX21_isPerson : ByteArray := prog_6_method_39_code
def yX21_isPerson : MethodName := ⟨RX21, "isPerson", "(I)Z"⟩
def dkwX21_isPerson_0 : List UInt8 := [26, 155, 0, 13, 26, 16, 10, 162, 0, 7, 4, 167, 0, 4, 3, 172]
abbrev dktX21_isPerson_0 : List UInt8 := dkwX21_isPerson_0 ++ []
theorem dksX21_isPerson_0 : cX21_isPerson.data.toList.drop 0 = dktX21_isPerson_0 := by decide +kernel
theorem dX21_isPerson_0 : decode cX21_isPerson 0 = .ok (.iload_n 0, 1) := dk_26 (dk_at dksX21_isPerson_0 0 rfl rfl)
theorem dX21_isPerson_1 : decode cX21_isPerson 1 = .ok (.ifCond .lt 13, 3) := dk_155 0 13 (dk_at dksX21_isPerson_0 1 rfl rfl)
theorem dX21_isPerson_4 : decode cX21_isPerson 4 = .ok (.iload_n 0, 1) := dk_26 (dk_at dksX21_isPerson_0 4 rfl rfl)
theorem dX21_isPerson_5 : decode cX21_isPerson 5 = .ok (.bipush 10, 2) := dk_16 10 (dk_at dksX21_isPerson_0 5 rfl rfl)
theorem dX21_isPerson_7 : decode cX21_isPerson 7 = .ok (.if_icmp .ge 7, 3) := dk_162 0 7 (dk_at dksX21_isPerson_0 7 rfl rfl)
theorem dX21_isPerson_10 : decode cX21_isPerson 10 = .ok (.iconst 1, 1) := dk_4 (dk_at dksX21_isPerson_0 10 rfl rfl)
theorem dX21_isPerson_11 : decode cX21_isPerson 11 = .ok (.goto 4, 3) := dk_167 0 4 (dk_at dksX21_isPerson_0 11 rfl rfl)
theorem dX21_isPerson_14 : decode cX21_isPerson 14 = .ok (.iconst 0, 1) := dk_3 (dk_at dksX21_isPerson_0 14 rfl rfl)
theorem dX21_isPerson_15 : decode cX21_isPerson 15 = .ok (.ireturn, 1) := dk_172 (dk_at dksX21_isPerson_0 15 rfl rfl)
abbrev cX21_open : ByteArray := prog_6_method_41_code
def yX21_open : MethodName := ⟨RX21, "open", "(II)Z"⟩
def dkwX21_open_1 : List UInt8 := [28, 122, 4, 126, 4, 160, 0, 7, 4, 167, 0, 4, 3, 172]
abbrev dktX21_open_1 : List UInt8 := dkwX21_open_1 ++ []
def dkwX21_open_0 : List UInt8 := [42, 27, 182, 0, 150, 153, 0, 31, 28, 184, 0, 210, 153, 0, 24, 42, 180, 0, 9, 27, 50, 180, 0, 216]
abbrev dktX21_open_0 : List UInt8 := dkwX21_open_0 ++ dktX21_open_1
theorem dksX21_open_0 : cX21_open.data.toList.drop 0 = dktX21_open_0 := by decide +kernel
theorem dksX21_open_1 : cX21_open.data.toList.drop 24 = dktX21_open_1 := dk_seg dksX21_open_0 24 rfl rfl
theorem dX21_open_0 : decode cX21_open 0 = .ok (.aload_n 0, 1) := dk_42 (dk_at dksX21_open_0 0 rfl rfl)
theorem dX21_open_1 : decode cX21_open 1 = .ok (.iload_n 1, 1) := dk_27 (dk_at dksX21_open_0 1 rfl rfl)
theorem dX21_open_2 : decode cX21_open 2 = .ok (.invokevirtual 150, 3) := dk_182 0 150 (dk_at dksX21_open_0 2 rfl rfl)
theorem dX21_open_5 : decode cX21_open 5 = .ok (.ifCond .eq 31, 3) := dk_153 0 31 (dk_at dksX21_open_0 5 rfl rfl)
theorem dX21_open_8 : decode cX21_open 8 = .ok (.iload_n 2, 1) := dk_28 (dk_at dksX21_open_0 8 rfl rfl)
theorem dX21_open_9 : decode cX21_open 9 = .ok (.invokestatic 210, 3) := dk_184 0 210 (dk_at dksX21_open_0 9 rfl rfl)
theorem dX21_open_12 : decode cX21_open 12 = .ok (.ifCond .eq 24, 3) := dk_153 0 24 (dk_at dksX21_open_0 12 rfl rfl)
theorem dX21_open_15 : decode cX21_open 15 = .ok (.aload_n 0, 1) := dk_42 (dk_at dksX21_open_0 15 rfl rfl)
theorem dX21_open_16 : decode cX21_open 16 = .ok (.getfield 9, 3) := dk_180 0 9 (dk_at dksX21_open_0 16 rfl rfl)
theorem dX21_open_19 : decode cX21_open 19 = .ok (.iload_n 1, 1) := dk_27 (dk_at dksX21_open_0 19 rfl rfl)
theorem dX21_open_20 : decode cX21_open 20 = .ok (.aaload, 1) := dk_50 (dk_at dksX21_open_0 20 rfl rfl)
theorem dX21_open_21 : decode cX21_open 21 = .ok (.getfield 216, 3) := dk_180 0 216 (dk_at dksX21_open_0 21 rfl rfl)
theorem dX21_open_24 : decode cX21_open 24 = .ok (.iload_n 2, 1) := dk_28 (dk_at dksX21_open_1 0 rfl rfl)
theorem dX21_open_25 : decode cX21_open 25 = .ok (.ishr, 1) := dk_122 (dk_at dksX21_open_1 1 rfl rfl)
theorem dX21_open_26 : decode cX21_open 26 = .ok (.iconst 1, 1) := dk_4 (dk_at dksX21_open_1 2 rfl rfl)
theorem dX21_open_27 : decode cX21_open 27 = .ok (.iand, 1) := dk_126 (dk_at dksX21_open_1 3 rfl rfl)
theorem dX21_open_28 : decode cX21_open 28 = .ok (.iconst 1, 1) := dk_4 (dk_at dksX21_open_1 4 rfl rfl)
theorem dX21_open_29 : decode cX21_open 29 = .ok (.if_icmp .ne 7, 3) := dk_160 0 7 (dk_at dksX21_open_1 5 rfl rfl)
theorem dX21_open_32 : decode cX21_open 32 = .ok (.iconst 1, 1) := dk_4 (dk_at dksX21_open_1 8 rfl rfl)
theorem dX21_open_33 : decode cX21_open 33 = .ok (.goto 4, 3) := dk_167 0 4 (dk_at dksX21_open_1 9 rfl rfl)
theorem dX21_open_36 : decode cX21_open 36 = .ok (.iconst 0, 1) := dk_3 (dk_at dksX21_open_1 12 rfl rfl)
theorem dX21_open_37 : decode cX21_open 37 = .ok (.ireturn, 1) := dk_172 (dk_at dksX21_open_1 13 rfl rfl)
abbrev cX21_first : ByteArray := prog_6_method_22_code
def yX21_first : MethodName := ⟨RX21, "first", "(I)I"⟩
def dkwX21_first_3 : List UInt8 := [167, 255, 192, 28, 172]
abbrev dktX21_first_3 : List UInt8 := dkwX21_first_3 ++ []
def dkwX21_first_2 : List UInt8 := [180, 0, 164, 42, 180, 0, 17, 28, 50, 180, 0, 164, 162, 0, 7, 29, 167, 0, 4, 28, 61, 132, 3, 1]
abbrev dktX21_first_2 : List UInt8 := dkwX21_first_2 ++ dktX21_first_3
def dkwX21_first_1 : List UInt8 := [180, 0, 106, 158, 0, 38, 25, 4, 180, 0, 96, 27, 160, 0, 29, 28, 2, 159, 0, 20, 25, 4]
abbrev dktX21_first_1 : List UInt8 := dkwX21_first_1 ++ dktX21_first_2
def dkwX21_first_0 : List UInt8 := [2, 61, 3, 62, 29, 42, 180, 0, 58, 162, 0, 62, 42, 180, 0, 17, 29, 50, 58, 4, 25, 4]
abbrev dktX21_first_0 : List UInt8 := dkwX21_first_0 ++ dktX21_first_1
theorem dksX21_first_0 : cX21_first.data.toList.drop 0 = dktX21_first_0 := by decide +kernel
theorem dksX21_first_1 : cX21_first.data.toList.drop 22 = dktX21_first_1 := dk_seg dksX21_first_0 22 rfl rfl
theorem dksX21_first_2 : cX21_first.data.toList.drop 44 = dktX21_first_2 := dk_seg dksX21_first_1 22 rfl rfl
theorem dksX21_first_3 : cX21_first.data.toList.drop 68 = dktX21_first_3 := dk_seg dksX21_first_2 24 rfl rfl
theorem dX21_first_0 : decode cX21_first 0 = .ok (.iconst (-1), 1) := dk_2 (dk_at dksX21_first_0 0 rfl rfl)
theorem dX21_first_1 : decode cX21_first 1 = .ok (.istore_n 2, 1) := dk_61 (dk_at dksX21_first_0 1 rfl rfl)
theorem dX21_first_2 : decode cX21_first 2 = .ok (.iconst 0, 1) := dk_3 (dk_at dksX21_first_0 2 rfl rfl)
theorem dX21_first_3 : decode cX21_first 3 = .ok (.istore_n 3, 1) := dk_62 (dk_at dksX21_first_0 3 rfl rfl)
theorem dX21_first_4 : decode cX21_first 4 = .ok (.iload_n 3, 1) := dk_29 (dk_at dksX21_first_0 4 rfl rfl)
theorem dX21_first_5 : decode cX21_first 5 = .ok (.aload_n 0, 1) := dk_42 (dk_at dksX21_first_0 5 rfl rfl)
theorem dX21_first_6 : decode cX21_first 6 = .ok (.getfield 58, 3) := dk_180 0 58 (dk_at dksX21_first_0 6 rfl rfl)
theorem dX21_first_9 : decode cX21_first 9 = .ok (.if_icmp .ge 62, 3) := dk_162 0 62 (dk_at dksX21_first_0 9 rfl rfl)
theorem dX21_first_12 : decode cX21_first 12 = .ok (.aload_n 0, 1) := dk_42 (dk_at dksX21_first_0 12 rfl rfl)
theorem dX21_first_13 : decode cX21_first 13 = .ok (.getfield 17, 3) := dk_180 0 17 (dk_at dksX21_first_0 13 rfl rfl)
theorem dX21_first_16 : decode cX21_first 16 = .ok (.iload_n 3, 1) := dk_29 (dk_at dksX21_first_0 16 rfl rfl)
theorem dX21_first_17 : decode cX21_first 17 = .ok (.aaload, 1) := dk_50 (dk_at dksX21_first_0 17 rfl rfl)
theorem dX21_first_18 : decode cX21_first 18 = .ok (.astore 4, 2) := dk_58 4 (dk_at dksX21_first_0 18 rfl rfl)
theorem dX21_first_20 : decode cX21_first 20 = .ok (.aload 4, 2) := dk_25 4 (dk_at dksX21_first_0 20 rfl rfl)
theorem dX21_first_22 : decode cX21_first 22 = .ok (.getfield 106, 3) := dk_180 0 106 (dk_at dksX21_first_1 0 rfl rfl)
theorem dX21_first_25 : decode cX21_first 25 = .ok (.ifCond .le 38, 3) := dk_158 0 38 (dk_at dksX21_first_1 3 rfl rfl)
theorem dX21_first_28 : decode cX21_first 28 = .ok (.aload 4, 2) := dk_25 4 (dk_at dksX21_first_1 6 rfl rfl)
theorem dX21_first_30 : decode cX21_first 30 = .ok (.getfield 96, 3) := dk_180 0 96 (dk_at dksX21_first_1 8 rfl rfl)
theorem dX21_first_33 : decode cX21_first 33 = .ok (.iload_n 1, 1) := dk_27 (dk_at dksX21_first_1 11 rfl rfl)
theorem dX21_first_34 : decode cX21_first 34 = .ok (.if_icmp .ne 29, 3) := dk_160 0 29 (dk_at dksX21_first_1 12 rfl rfl)
theorem dX21_first_37 : decode cX21_first 37 = .ok (.iload_n 2, 1) := dk_28 (dk_at dksX21_first_1 15 rfl rfl)
theorem dX21_first_38 : decode cX21_first 38 = .ok (.iconst (-1), 1) := dk_2 (dk_at dksX21_first_1 16 rfl rfl)
theorem dX21_first_39 : decode cX21_first 39 = .ok (.if_icmp .eq 20, 3) := dk_159 0 20 (dk_at dksX21_first_1 17 rfl rfl)
theorem dX21_first_42 : decode cX21_first 42 = .ok (.aload 4, 2) := dk_25 4 (dk_at dksX21_first_1 20 rfl rfl)
theorem dX21_first_44 : decode cX21_first 44 = .ok (.getfield 164, 3) := dk_180 0 164 (dk_at dksX21_first_2 0 rfl rfl)
theorem dX21_first_47 : decode cX21_first 47 = .ok (.aload_n 0, 1) := dk_42 (dk_at dksX21_first_2 3 rfl rfl)
theorem dX21_first_48 : decode cX21_first 48 = .ok (.getfield 17, 3) := dk_180 0 17 (dk_at dksX21_first_2 4 rfl rfl)
theorem dX21_first_51 : decode cX21_first 51 = .ok (.iload_n 2, 1) := dk_28 (dk_at dksX21_first_2 7 rfl rfl)
theorem dX21_first_52 : decode cX21_first 52 = .ok (.aaload, 1) := dk_50 (dk_at dksX21_first_2 8 rfl rfl)
theorem dX21_first_53 : decode cX21_first 53 = .ok (.getfield 164, 3) := dk_180 0 164 (dk_at dksX21_first_2 9 rfl rfl)
theorem dX21_first_56 : decode cX21_first 56 = .ok (.if_icmp .ge 7, 3) := dk_162 0 7 (dk_at dksX21_first_2 12 rfl rfl)
theorem dX21_first_59 : decode cX21_first 59 = .ok (.iload_n 3, 1) := dk_29 (dk_at dksX21_first_2 15 rfl rfl)
theorem dX21_first_60 : decode cX21_first 60 = .ok (.goto 4, 3) := dk_167 0 4 (dk_at dksX21_first_2 16 rfl rfl)
theorem dX21_first_63 : decode cX21_first 63 = .ok (.iload_n 2, 1) := dk_28 (dk_at dksX21_first_2 19 rfl rfl)
theorem dX21_first_64 : decode cX21_first 64 = .ok (.istore_n 2, 1) := dk_61 (dk_at dksX21_first_2 20 rfl rfl)
theorem dX21_first_65 : decode cX21_first 65 = .ok (.iinc 3 1, 3) := dk_132 3 1 (dk_at dksX21_first_2 21 rfl rfl)
theorem dX21_first_68 : decode cX21_first 68 = .ok (.goto (-64), 3) := dk_167 255 192 (dk_at dksX21_first_3 0 rfl rfl)
theorem dX21_first_71 : decode cX21_first 71 = .ok (.iload_n 2, 1) := dk_28 (dk_at dksX21_first_3 3 rfl rfl)
theorem dX21_first_72 : decode cX21_first 72 = .ok (.ireturn, 1) := dk_172 (dk_at dksX21_first_3 4 rfl rfl)
abbrev cX21_drill : ByteArray := prog_6_method_42_code
def yX21_drill : MethodName := ⟨RX21, "drill", "(II)I"⟩
def dkwX21_drill_7 : List UInt8 := [167, 255, 115, 2, 172]
abbrev dktX21_drill_7 : List UInt8 := dkwX21_drill_7 ++ []
def dkwX21_drill_6 : List UInt8 := [167, 0, 4, 3, 96, 54, 4, 132, 5, 1, 167, 255, 143, 21, 4, 28, 160, 0, 5, 29, 172, 132, 3, 1]
abbrev dktX21_drill_6 : List UInt8 := dkwX21_drill_6 ++ dktX21_drill_7
def dkwX21_drill_5 : List UInt8 := [160, 0, 13, 21, 5, 29, 162, 0, 7, 4, 167, 0, 4, 3, 54, 8, 21, 4, 21, 8, 153, 0, 7, 4]
abbrev dktX21_drill_5 : List UInt8 := dkwX21_drill_5 ++ dktX21_drill_6
def dkwX21_drill_4 : List UInt8 := [167, 0, 37, 3, 167, 0, 33, 29, 27, 159, 0, 27, 21, 6, 21, 7, 161, 0, 16, 21, 6, 21, 7]
abbrev dktX21_drill_4 : List UInt8 := dkwX21_drill_4 ++ dktX21_drill_5
def dkwX21_drill_3 : List UInt8 := [180, 0, 9, 27, 50, 182, 0, 108, 54, 7, 21, 5, 27, 160, 0, 16, 29, 27, 159, 0, 7, 4]
abbrev dktX21_drill_3 : List UInt8 := dkwX21_drill_3 ++ dktX21_drill_4
def dkwX21_drill_2 : List UInt8 := [180, 0, 9, 21, 5, 50, 42, 180, 0, 9, 27, 50, 182, 0, 108, 54, 6, 42, 180, 0, 9, 29, 50, 42]
abbrev dktX21_drill_2 : List UInt8 := dkwX21_drill_2 ++ dktX21_drill_3
def dkwX21_drill_1 : List UInt8 := [29, 42, 180, 0, 55, 162, 0, 139, 3, 54, 4, 3, 54, 5, 21, 5, 42, 180, 0, 55, 162, 0, 110, 42]
abbrev dktX21_drill_1 : List UInt8 := dkwX21_drill_1 ++ dktX21_drill_2
def dkwX21_drill_0 : List UInt8 := [42, 27, 182, 0, 150, 153, 0, 15, 28, 155, 0, 11, 28, 42, 180, 0, 55, 161, 0, 5, 2, 172, 3, 62]
abbrev dktX21_drill_0 : List UInt8 := dkwX21_drill_0 ++ dktX21_drill_1
theorem dksX21_drill_0 : cX21_drill.data.toList.drop 0 = dktX21_drill_0 := by decide +kernel
theorem dksX21_drill_1 : cX21_drill.data.toList.drop 24 = dktX21_drill_1 := dk_seg dksX21_drill_0 24 rfl rfl
theorem dksX21_drill_2 : cX21_drill.data.toList.drop 48 = dktX21_drill_2 := dk_seg dksX21_drill_1 24 rfl rfl
theorem dksX21_drill_3 : cX21_drill.data.toList.drop 72 = dktX21_drill_3 := dk_seg dksX21_drill_2 24 rfl rfl
theorem dksX21_drill_4 : cX21_drill.data.toList.drop 94 = dktX21_drill_4 := dk_seg dksX21_drill_3 22 rfl rfl
theorem dksX21_drill_5 : cX21_drill.data.toList.drop 117 = dktX21_drill_5 := dk_seg dksX21_drill_4 23 rfl rfl
theorem dksX21_drill_6 : cX21_drill.data.toList.drop 141 = dktX21_drill_6 := dk_seg dksX21_drill_5 24 rfl rfl
theorem dksX21_drill_7 : cX21_drill.data.toList.drop 165 = dktX21_drill_7 := dk_seg dksX21_drill_6 24 rfl rfl
theorem dX21_drill_0 : decode cX21_drill 0 = .ok (.aload_n 0, 1) := dk_42 (dk_at dksX21_drill_0 0 rfl rfl)
theorem dX21_drill_1 : decode cX21_drill 1 = .ok (.iload_n 1, 1) := dk_27 (dk_at dksX21_drill_0 1 rfl rfl)
theorem dX21_drill_2 : decode cX21_drill 2 = .ok (.invokevirtual 150, 3) := dk_182 0 150 (dk_at dksX21_drill_0 2 rfl rfl)
theorem dX21_drill_5 : decode cX21_drill 5 = .ok (.ifCond .eq 15, 3) := dk_153 0 15 (dk_at dksX21_drill_0 5 rfl rfl)
theorem dX21_drill_8 : decode cX21_drill 8 = .ok (.iload_n 2, 1) := dk_28 (dk_at dksX21_drill_0 8 rfl rfl)
theorem dX21_drill_9 : decode cX21_drill 9 = .ok (.ifCond .lt 11, 3) := dk_155 0 11 (dk_at dksX21_drill_0 9 rfl rfl)
theorem dX21_drill_12 : decode cX21_drill 12 = .ok (.iload_n 2, 1) := dk_28 (dk_at dksX21_drill_0 12 rfl rfl)
theorem dX21_drill_13 : decode cX21_drill 13 = .ok (.aload_n 0, 1) := dk_42 (dk_at dksX21_drill_0 13 rfl rfl)
theorem dX21_drill_14 : decode cX21_drill 14 = .ok (.getfield 55, 3) := dk_180 0 55 (dk_at dksX21_drill_0 14 rfl rfl)
theorem dX21_drill_17 : decode cX21_drill 17 = .ok (.if_icmp .lt 5, 3) := dk_161 0 5 (dk_at dksX21_drill_0 17 rfl rfl)
theorem dX21_drill_20 : decode cX21_drill 20 = .ok (.iconst (-1), 1) := dk_2 (dk_at dksX21_drill_0 20 rfl rfl)
theorem dX21_drill_21 : decode cX21_drill 21 = .ok (.ireturn, 1) := dk_172 (dk_at dksX21_drill_0 21 rfl rfl)
theorem dX21_drill_22 : decode cX21_drill 22 = .ok (.iconst 0, 1) := dk_3 (dk_at dksX21_drill_0 22 rfl rfl)
theorem dX21_drill_23 : decode cX21_drill 23 = .ok (.istore_n 3, 1) := dk_62 (dk_at dksX21_drill_0 23 rfl rfl)
theorem dX21_drill_24 : decode cX21_drill 24 = .ok (.iload_n 3, 1) := dk_29 (dk_at dksX21_drill_1 0 rfl rfl)
theorem dX21_drill_25 : decode cX21_drill 25 = .ok (.aload_n 0, 1) := dk_42 (dk_at dksX21_drill_1 1 rfl rfl)
theorem dX21_drill_26 : decode cX21_drill 26 = .ok (.getfield 55, 3) := dk_180 0 55 (dk_at dksX21_drill_1 2 rfl rfl)
theorem dX21_drill_29 : decode cX21_drill 29 = .ok (.if_icmp .ge 139, 3) := dk_162 0 139 (dk_at dksX21_drill_1 5 rfl rfl)
theorem dX21_drill_32 : decode cX21_drill 32 = .ok (.iconst 0, 1) := dk_3 (dk_at dksX21_drill_1 8 rfl rfl)
theorem dX21_drill_33 : decode cX21_drill 33 = .ok (.istore 4, 2) := dk_54 4 (dk_at dksX21_drill_1 9 rfl rfl)
theorem dX21_drill_35 : decode cX21_drill 35 = .ok (.iconst 0, 1) := dk_3 (dk_at dksX21_drill_1 11 rfl rfl)
theorem dX21_drill_36 : decode cX21_drill 36 = .ok (.istore 5, 2) := dk_54 5 (dk_at dksX21_drill_1 12 rfl rfl)
theorem dX21_drill_38 : decode cX21_drill 38 = .ok (.iload 5, 2) := dk_21 5 (dk_at dksX21_drill_1 14 rfl rfl)
theorem dX21_drill_40 : decode cX21_drill 40 = .ok (.aload_n 0, 1) := dk_42 (dk_at dksX21_drill_1 16 rfl rfl)
theorem dX21_drill_41 : decode cX21_drill 41 = .ok (.getfield 55, 3) := dk_180 0 55 (dk_at dksX21_drill_1 17 rfl rfl)
theorem dX21_drill_44 : decode cX21_drill 44 = .ok (.if_icmp .ge 110, 3) := dk_162 0 110 (dk_at dksX21_drill_1 20 rfl rfl)
theorem dX21_drill_47 : decode cX21_drill 47 = .ok (.aload_n 0, 1) := dk_42 (dk_at dksX21_drill_1 23 rfl rfl)
theorem dX21_drill_48 : decode cX21_drill 48 = .ok (.getfield 9, 3) := dk_180 0 9 (dk_at dksX21_drill_2 0 rfl rfl)
theorem dX21_drill_51 : decode cX21_drill 51 = .ok (.iload 5, 2) := dk_21 5 (dk_at dksX21_drill_2 3 rfl rfl)
theorem dX21_drill_53 : decode cX21_drill 53 = .ok (.aaload, 1) := dk_50 (dk_at dksX21_drill_2 5 rfl rfl)
theorem dX21_drill_54 : decode cX21_drill 54 = .ok (.aload_n 0, 1) := dk_42 (dk_at dksX21_drill_2 6 rfl rfl)
theorem dX21_drill_55 : decode cX21_drill 55 = .ok (.getfield 9, 3) := dk_180 0 9 (dk_at dksX21_drill_2 7 rfl rfl)
theorem dX21_drill_58 : decode cX21_drill 58 = .ok (.iload_n 1, 1) := dk_27 (dk_at dksX21_drill_2 10 rfl rfl)
theorem dX21_drill_59 : decode cX21_drill 59 = .ok (.aaload, 1) := dk_50 (dk_at dksX21_drill_2 11 rfl rfl)
theorem dX21_drill_60 : decode cX21_drill 60 = .ok (.invokevirtual 108, 3) := dk_182 0 108 (dk_at dksX21_drill_2 12 rfl rfl)
theorem dX21_drill_63 : decode cX21_drill 63 = .ok (.istore 6, 2) := dk_54 6 (dk_at dksX21_drill_2 15 rfl rfl)
theorem dX21_drill_65 : decode cX21_drill 65 = .ok (.aload_n 0, 1) := dk_42 (dk_at dksX21_drill_2 17 rfl rfl)
theorem dX21_drill_66 : decode cX21_drill 66 = .ok (.getfield 9, 3) := dk_180 0 9 (dk_at dksX21_drill_2 18 rfl rfl)
theorem dX21_drill_69 : decode cX21_drill 69 = .ok (.iload_n 3, 1) := dk_29 (dk_at dksX21_drill_2 21 rfl rfl)
theorem dX21_drill_70 : decode cX21_drill 70 = .ok (.aaload, 1) := dk_50 (dk_at dksX21_drill_2 22 rfl rfl)
theorem dX21_drill_71 : decode cX21_drill 71 = .ok (.aload_n 0, 1) := dk_42 (dk_at dksX21_drill_2 23 rfl rfl)
theorem dX21_drill_72 : decode cX21_drill 72 = .ok (.getfield 9, 3) := dk_180 0 9 (dk_at dksX21_drill_3 0 rfl rfl)
theorem dX21_drill_75 : decode cX21_drill 75 = .ok (.iload_n 1, 1) := dk_27 (dk_at dksX21_drill_3 3 rfl rfl)
theorem dX21_drill_76 : decode cX21_drill 76 = .ok (.aaload, 1) := dk_50 (dk_at dksX21_drill_3 4 rfl rfl)
theorem dX21_drill_77 : decode cX21_drill 77 = .ok (.invokevirtual 108, 3) := dk_182 0 108 (dk_at dksX21_drill_3 5 rfl rfl)
theorem dX21_drill_80 : decode cX21_drill 80 = .ok (.istore 7, 2) := dk_54 7 (dk_at dksX21_drill_3 8 rfl rfl)
theorem dX21_drill_82 : decode cX21_drill 82 = .ok (.iload 5, 2) := dk_21 5 (dk_at dksX21_drill_3 10 rfl rfl)
theorem dX21_drill_84 : decode cX21_drill 84 = .ok (.iload_n 1, 1) := dk_27 (dk_at dksX21_drill_3 12 rfl rfl)
theorem dX21_drill_85 : decode cX21_drill 85 = .ok (.if_icmp .ne 16, 3) := dk_160 0 16 (dk_at dksX21_drill_3 13 rfl rfl)
theorem dX21_drill_88 : decode cX21_drill 88 = .ok (.iload_n 3, 1) := dk_29 (dk_at dksX21_drill_3 16 rfl rfl)
theorem dX21_drill_89 : decode cX21_drill 89 = .ok (.iload_n 1, 1) := dk_27 (dk_at dksX21_drill_3 17 rfl rfl)
theorem dX21_drill_90 : decode cX21_drill 90 = .ok (.if_icmp .eq 7, 3) := dk_159 0 7 (dk_at dksX21_drill_3 18 rfl rfl)
theorem dX21_drill_93 : decode cX21_drill 93 = .ok (.iconst 1, 1) := dk_4 (dk_at dksX21_drill_3 21 rfl rfl)
theorem dX21_drill_94 : decode cX21_drill 94 = .ok (.goto 37, 3) := dk_167 0 37 (dk_at dksX21_drill_4 0 rfl rfl)
theorem dX21_drill_97 : decode cX21_drill 97 = .ok (.iconst 0, 1) := dk_3 (dk_at dksX21_drill_4 3 rfl rfl)
theorem dX21_drill_98 : decode cX21_drill 98 = .ok (.goto 33, 3) := dk_167 0 33 (dk_at dksX21_drill_4 4 rfl rfl)
theorem dX21_drill_101 : decode cX21_drill 101 = .ok (.iload_n 3, 1) := dk_29 (dk_at dksX21_drill_4 7 rfl rfl)
theorem dX21_drill_102 : decode cX21_drill 102 = .ok (.iload_n 1, 1) := dk_27 (dk_at dksX21_drill_4 8 rfl rfl)
theorem dX21_drill_103 : decode cX21_drill 103 = .ok (.if_icmp .eq 27, 3) := dk_159 0 27 (dk_at dksX21_drill_4 9 rfl rfl)
theorem dX21_drill_106 : decode cX21_drill 106 = .ok (.iload 6, 2) := dk_21 6 (dk_at dksX21_drill_4 12 rfl rfl)
theorem dX21_drill_108 : decode cX21_drill 108 = .ok (.iload 7, 2) := dk_21 7 (dk_at dksX21_drill_4 14 rfl rfl)
theorem dX21_drill_110 : decode cX21_drill 110 = .ok (.if_icmp .lt 16, 3) := dk_161 0 16 (dk_at dksX21_drill_4 16 rfl rfl)
theorem dX21_drill_113 : decode cX21_drill 113 = .ok (.iload 6, 2) := dk_21 6 (dk_at dksX21_drill_4 19 rfl rfl)
theorem dX21_drill_115 : decode cX21_drill 115 = .ok (.iload 7, 2) := dk_21 7 (dk_at dksX21_drill_4 21 rfl rfl)
theorem dX21_drill_117 : decode cX21_drill 117 = .ok (.if_icmp .ne 13, 3) := dk_160 0 13 (dk_at dksX21_drill_5 0 rfl rfl)
theorem dX21_drill_120 : decode cX21_drill 120 = .ok (.iload 5, 2) := dk_21 5 (dk_at dksX21_drill_5 3 rfl rfl)
theorem dX21_drill_122 : decode cX21_drill 122 = .ok (.iload_n 3, 1) := dk_29 (dk_at dksX21_drill_5 5 rfl rfl)
theorem dX21_drill_123 : decode cX21_drill 123 = .ok (.if_icmp .ge 7, 3) := dk_162 0 7 (dk_at dksX21_drill_5 6 rfl rfl)
theorem dX21_drill_126 : decode cX21_drill 126 = .ok (.iconst 1, 1) := dk_4 (dk_at dksX21_drill_5 9 rfl rfl)
theorem dX21_drill_127 : decode cX21_drill 127 = .ok (.goto 4, 3) := dk_167 0 4 (dk_at dksX21_drill_5 10 rfl rfl)
theorem dX21_drill_130 : decode cX21_drill 130 = .ok (.iconst 0, 1) := dk_3 (dk_at dksX21_drill_5 13 rfl rfl)
theorem dX21_drill_131 : decode cX21_drill 131 = .ok (.istore 8, 2) := dk_54 8 (dk_at dksX21_drill_5 14 rfl rfl)
theorem dX21_drill_133 : decode cX21_drill 133 = .ok (.iload 4, 2) := dk_21 4 (dk_at dksX21_drill_5 16 rfl rfl)
theorem dX21_drill_135 : decode cX21_drill 135 = .ok (.iload 8, 2) := dk_21 8 (dk_at dksX21_drill_5 18 rfl rfl)
theorem dX21_drill_137 : decode cX21_drill 137 = .ok (.ifCond .eq 7, 3) := dk_153 0 7 (dk_at dksX21_drill_5 20 rfl rfl)
theorem dX21_drill_140 : decode cX21_drill 140 = .ok (.iconst 1, 1) := dk_4 (dk_at dksX21_drill_5 23 rfl rfl)
theorem dX21_drill_141 : decode cX21_drill 141 = .ok (.goto 4, 3) := dk_167 0 4 (dk_at dksX21_drill_6 0 rfl rfl)
theorem dX21_drill_144 : decode cX21_drill 144 = .ok (.iconst 0, 1) := dk_3 (dk_at dksX21_drill_6 3 rfl rfl)
theorem dX21_drill_145 : decode cX21_drill 145 = .ok (.iadd, 1) := dk_96 (dk_at dksX21_drill_6 4 rfl rfl)
theorem dX21_drill_146 : decode cX21_drill 146 = .ok (.istore 4, 2) := dk_54 4 (dk_at dksX21_drill_6 5 rfl rfl)
theorem dX21_drill_148 : decode cX21_drill 148 = .ok (.iinc 5 1, 3) := dk_132 5 1 (dk_at dksX21_drill_6 7 rfl rfl)
theorem dX21_drill_151 : decode cX21_drill 151 = .ok (.goto (-113), 3) := dk_167 255 143 (dk_at dksX21_drill_6 10 rfl rfl)
theorem dX21_drill_154 : decode cX21_drill 154 = .ok (.iload 4, 2) := dk_21 4 (dk_at dksX21_drill_6 13 rfl rfl)
theorem dX21_drill_156 : decode cX21_drill 156 = .ok (.iload_n 2, 1) := dk_28 (dk_at dksX21_drill_6 15 rfl rfl)
theorem dX21_drill_157 : decode cX21_drill 157 = .ok (.if_icmp .ne 5, 3) := dk_160 0 5 (dk_at dksX21_drill_6 16 rfl rfl)
theorem dX21_drill_160 : decode cX21_drill 160 = .ok (.iload_n 3, 1) := dk_29 (dk_at dksX21_drill_6 19 rfl rfl)
theorem dX21_drill_161 : decode cX21_drill 161 = .ok (.ireturn, 1) := dk_172 (dk_at dksX21_drill_6 20 rfl rfl)
theorem dX21_drill_162 : decode cX21_drill 162 = .ok (.iinc 3 1, 3) := dk_132 3 1 (dk_at dksX21_drill_6 21 rfl rfl)
theorem dX21_drill_165 : decode cX21_drill 165 = .ok (.goto (-141), 3) := dk_167 255 115 (dk_at dksX21_drill_7 0 rfl rfl)
theorem dX21_drill_168 : decode cX21_drill 168 = .ok (.iconst (-1), 1) := dk_2 (dk_at dksX21_drill_7 3 rfl rfl)
theorem dX21_drill_169 : decode cX21_drill 169 = .ok (.ireturn, 1) := dk_172 (dk_at dksX21_drill_7 4 rfl rfl)
abbrev cX21_inspect : ByteArray := prog_6_method_43_code
def yX21_inspect : MethodName := ⟨RX21, "inspect", "(IJ)I"⟩
def dkwX21_inspect_3 : List UInt8 := [100, 172]
abbrev dktX21_inspect_3 : List UInt8 := dkwX21_inspect_3 ++ []
def dkwX21_inspect_2 : List UInt8 := [180, 0, 9, 27, 50, 32, 136, 181, 0, 219, 21, 4, 2, 160, 0, 7, 3, 167, 0, 8, 32, 136, 21, 4]
abbrev dktX21_inspect_2 : List UInt8 := dkwX21_inspect_2 ++ dktX21_inspect_3
def dkwX21_inspect_1 : List UInt8 := [27, 50, 180, 0, 219, 133, 148, 156, 0, 5, 2, 172, 42, 180, 0, 9, 27, 50, 180, 0, 219, 54, 4, 42]
abbrev dktX21_inspect_1 : List UInt8 := dkwX21_inspect_1 ++ dktX21_inspect_2
def dkwX21_inspect_0 : List UInt8 := [42, 27, 182, 0, 150, 153, 0, 29, 32, 9, 20, 0, 94, 184, 0, 71, 153, 0, 18, 32, 42, 180, 0, 9]
abbrev dktX21_inspect_0 : List UInt8 := dkwX21_inspect_0 ++ dktX21_inspect_1
theorem dksX21_inspect_0 : cX21_inspect.data.toList.drop 0 = dktX21_inspect_0 := by decide +kernel
theorem dksX21_inspect_1 : cX21_inspect.data.toList.drop 24 = dktX21_inspect_1 := dk_seg dksX21_inspect_0 24 rfl rfl
theorem dksX21_inspect_2 : cX21_inspect.data.toList.drop 48 = dktX21_inspect_2 := dk_seg dksX21_inspect_1 24 rfl rfl
theorem dksX21_inspect_3 : cX21_inspect.data.toList.drop 72 = dktX21_inspect_3 := dk_seg dksX21_inspect_2 24 rfl rfl
theorem dX21_inspect_0 : decode cX21_inspect 0 = .ok (.aload_n 0, 1) := dk_42 (dk_at dksX21_inspect_0 0 rfl rfl)
theorem dX21_inspect_1 : decode cX21_inspect 1 = .ok (.iload_n 1, 1) := dk_27 (dk_at dksX21_inspect_0 1 rfl rfl)
theorem dX21_inspect_2 : decode cX21_inspect 2 = .ok (.invokevirtual 150, 3) := dk_182 0 150 (dk_at dksX21_inspect_0 2 rfl rfl)
theorem dX21_inspect_5 : decode cX21_inspect 5 = .ok (.ifCond .eq 29, 3) := dk_153 0 29 (dk_at dksX21_inspect_0 5 rfl rfl)
theorem dX21_inspect_8 : decode cX21_inspect 8 = .ok (.lload_n 2, 1) := dk_32 (dk_at dksX21_inspect_0 8 rfl rfl)
theorem dX21_inspect_9 : decode cX21_inspect 9 = .ok (.lconst 0, 1) := dk_9 (dk_at dksX21_inspect_0 9 rfl rfl)
theorem dX21_inspect_10 : decode cX21_inspect 10 = .ok (.ldc2_w 94, 3) := dk_20 0 94 (dk_at dksX21_inspect_0 10 rfl rfl)
theorem dX21_inspect_13 : decode cX21_inspect 13 = .ok (.invokestatic 71, 3) := dk_184 0 71 (dk_at dksX21_inspect_0 13 rfl rfl)
theorem dX21_inspect_16 : decode cX21_inspect 16 = .ok (.ifCond .eq 18, 3) := dk_153 0 18 (dk_at dksX21_inspect_0 16 rfl rfl)
theorem dX21_inspect_19 : decode cX21_inspect 19 = .ok (.lload_n 2, 1) := dk_32 (dk_at dksX21_inspect_0 19 rfl rfl)
theorem dX21_inspect_20 : decode cX21_inspect 20 = .ok (.aload_n 0, 1) := dk_42 (dk_at dksX21_inspect_0 20 rfl rfl)
theorem dX21_inspect_21 : decode cX21_inspect 21 = .ok (.getfield 9, 3) := dk_180 0 9 (dk_at dksX21_inspect_0 21 rfl rfl)
theorem dX21_inspect_24 : decode cX21_inspect 24 = .ok (.iload_n 1, 1) := dk_27 (dk_at dksX21_inspect_1 0 rfl rfl)
theorem dX21_inspect_25 : decode cX21_inspect 25 = .ok (.aaload, 1) := dk_50 (dk_at dksX21_inspect_1 1 rfl rfl)
theorem dX21_inspect_26 : decode cX21_inspect 26 = .ok (.getfield 219, 3) := dk_180 0 219 (dk_at dksX21_inspect_1 2 rfl rfl)
theorem dX21_inspect_29 : decode cX21_inspect 29 = .ok (.i2l, 1) := dk_133 (dk_at dksX21_inspect_1 5 rfl rfl)
theorem dX21_inspect_30 : decode cX21_inspect 30 = .ok (.lcmp, 1) := dk_148 (dk_at dksX21_inspect_1 6 rfl rfl)
theorem dX21_inspect_31 : decode cX21_inspect 31 = .ok (.ifCond .ge 5, 3) := dk_156 0 5 (dk_at dksX21_inspect_1 7 rfl rfl)
theorem dX21_inspect_34 : decode cX21_inspect 34 = .ok (.iconst (-1), 1) := dk_2 (dk_at dksX21_inspect_1 10 rfl rfl)
theorem dX21_inspect_35 : decode cX21_inspect 35 = .ok (.ireturn, 1) := dk_172 (dk_at dksX21_inspect_1 11 rfl rfl)
theorem dX21_inspect_36 : decode cX21_inspect 36 = .ok (.aload_n 0, 1) := dk_42 (dk_at dksX21_inspect_1 12 rfl rfl)
theorem dX21_inspect_37 : decode cX21_inspect 37 = .ok (.getfield 9, 3) := dk_180 0 9 (dk_at dksX21_inspect_1 13 rfl rfl)
theorem dX21_inspect_40 : decode cX21_inspect 40 = .ok (.iload_n 1, 1) := dk_27 (dk_at dksX21_inspect_1 16 rfl rfl)
theorem dX21_inspect_41 : decode cX21_inspect 41 = .ok (.aaload, 1) := dk_50 (dk_at dksX21_inspect_1 17 rfl rfl)
theorem dX21_inspect_42 : decode cX21_inspect 42 = .ok (.getfield 219, 3) := dk_180 0 219 (dk_at dksX21_inspect_1 18 rfl rfl)
theorem dX21_inspect_45 : decode cX21_inspect 45 = .ok (.istore 4, 2) := dk_54 4 (dk_at dksX21_inspect_1 21 rfl rfl)
theorem dX21_inspect_47 : decode cX21_inspect 47 = .ok (.aload_n 0, 1) := dk_42 (dk_at dksX21_inspect_1 23 rfl rfl)
theorem dX21_inspect_48 : decode cX21_inspect 48 = .ok (.getfield 9, 3) := dk_180 0 9 (dk_at dksX21_inspect_2 0 rfl rfl)
theorem dX21_inspect_51 : decode cX21_inspect 51 = .ok (.iload_n 1, 1) := dk_27 (dk_at dksX21_inspect_2 3 rfl rfl)
theorem dX21_inspect_52 : decode cX21_inspect 52 = .ok (.aaload, 1) := dk_50 (dk_at dksX21_inspect_2 4 rfl rfl)
theorem dX21_inspect_53 : decode cX21_inspect 53 = .ok (.lload_n 2, 1) := dk_32 (dk_at dksX21_inspect_2 5 rfl rfl)
theorem dX21_inspect_54 : decode cX21_inspect 54 = .ok (.l2i, 1) := dk_136 (dk_at dksX21_inspect_2 6 rfl rfl)
theorem dX21_inspect_55 : decode cX21_inspect 55 = .ok (.putfield 219, 3) := dk_181 0 219 (dk_at dksX21_inspect_2 7 rfl rfl)
theorem dX21_inspect_58 : decode cX21_inspect 58 = .ok (.iload 4, 2) := dk_21 4 (dk_at dksX21_inspect_2 10 rfl rfl)
theorem dX21_inspect_60 : decode cX21_inspect 60 = .ok (.iconst (-1), 1) := dk_2 (dk_at dksX21_inspect_2 12 rfl rfl)
theorem dX21_inspect_61 : decode cX21_inspect 61 = .ok (.if_icmp .ne 7, 3) := dk_160 0 7 (dk_at dksX21_inspect_2 13 rfl rfl)
theorem dX21_inspect_64 : decode cX21_inspect 64 = .ok (.iconst 0, 1) := dk_3 (dk_at dksX21_inspect_2 16 rfl rfl)
theorem dX21_inspect_65 : decode cX21_inspect 65 = .ok (.goto 8, 3) := dk_167 0 8 (dk_at dksX21_inspect_2 17 rfl rfl)
theorem dX21_inspect_68 : decode cX21_inspect 68 = .ok (.lload_n 2, 1) := dk_32 (dk_at dksX21_inspect_2 20 rfl rfl)
theorem dX21_inspect_69 : decode cX21_inspect 69 = .ok (.l2i, 1) := dk_136 (dk_at dksX21_inspect_2 21 rfl rfl)
theorem dX21_inspect_70 : decode cX21_inspect 70 = .ok (.iload 4, 2) := dk_21 4 (dk_at dksX21_inspect_2 22 rfl rfl)
theorem dX21_inspect_72 : decode cX21_inspect 72 = .ok (.isub, 1) := dk_100 (dk_at dksX21_inspect_3 0 rfl rfl)
theorem dX21_inspect_73 : decode cX21_inspect 73 = .ok (.ireturn, 1) := dk_172 (dk_at dksX21_inspect_3 1 rfl rfl)
theorem q420 : (Jvm.Cond.initialized "WasteHouse$BarredStores") ∈ lw_all := lw_g (lw_at lw_m1 28 rfl) rfl
theorem q1300 : (Jvm.Cond.instantiable "WasteHouse$BarredStores" (15 : Nat)) ∈ lw_all := lw_g (lw_at lw_m4 188 rfl) rfl
theorem q1302 : (Jvm.Cond.instanceMethod ({ cls := "WasteHouse$BarredStores", name := "<init>", desc := "()V" } : Jvm.MethodName)) ∈ lw_all := lw_g (lw_at lw_m4 190 rfl) rfl
theorem q1303 : (Jvm.Cond.code ({ cls := "WasteHouse$BarredStores", name := "<init>", desc := "()V" } : Jvm.MethodName) prog_6_method_1_code (2 : Nat) (Option.none : Option Jvm.ClassFile.FieldType)) ∈ lw_all := lw_g (lw_at lw_m4 191 rfl) rfl
theorem q1304 : (Jvm.Cond.methodLink "WasteHouse$BarredStores" (1 : Nat) ({ cls := "java/lang/Object", name := "<init>", desc := "()V" } : Jvm.MethodName)) ∈ lw_all := lw_g (lw_at lw_m4 192 rfl) rfl
theorem q1305 : (Jvm.Cond.classLink "WasteHouse$BarredStores" (7 : Nat) "WasteHouse$BarredStores$Place") ∈ lw_all := lw_g (lw_at lw_m4 193 rfl) rfl
theorem q1307 : (Jvm.Cond.classLink "WasteHouse$BarredStores" (15 : Nat) "WasteHouse$BarredStores$Load") ∈ lw_all := lw_g (lw_at lw_m4 195 rfl) rfl
theorem q1310 : (Jvm.Cond.methodLinkNest "WasteHouse$BarredStores" (52 : Nat) ({ cls := "WasteHouse$BarredStores$Place", name := "<init>", desc := "()V" } : Jvm.MethodName) "WasteHouse") ∈ lw_tbl := lw_at lw_m4 198 rfl
theorem q1315 : (Jvm.Cond.fieldLink "WasteHouse$BarredStores" (83 : Nat) "WasteHouse$BarredStores$Place" "x" "I") ∈ lw_all := lw_g (lw_at lw_m4 203 rfl) rfl
theorem q1317 : (Jvm.Cond.fieldLink "WasteHouse$BarredStores" (86 : Nat) "WasteHouse$BarredStores$Place" "y" "I") ∈ lw_all := lw_g (lw_at lw_m4 205 rfl) rfl
theorem q1318 : (Jvm.Cond.fieldLink "WasteHouse$BarredStores" (89 : Nat) "WasteHouse$BarredStores$Place" "basin" "I") ∈ lw_all := lw_g (lw_at lw_m4 206 rfl) rfl
theorem q1319 : (Jvm.Cond.fieldLink "WasteHouse$BarredStores" (216 : Nat) "WasteHouse$BarredStores$Place" "keys" "I") ∈ lw_all := lw_g (lw_at lw_m4 207 rfl) rfl
theorem q1321 : (Jvm.Cond.fieldLink "WasteHouse$BarredStores" (219 : Nat) "WasteHouse$BarredStores$Place" "inspected" "I") ∈ lw_all := lw_g (lw_at lw_m4 209 rfl) rfl
theorem q1335 : (Jvm.Cond.methodLinkNest "WasteHouse$BarredStores" (53 : Nat) ({ cls := "WasteHouse$BarredStores$Load", name := "<init>", desc := "()V" } : Jvm.MethodName) "WasteHouse") ∈ lw_tbl := lw_at lw_m4 223 rfl
theorem q1339 : (Jvm.Cond.fieldLink "WasteHouse$BarredStores" (96 : Nat) "WasteHouse$BarredStores$Load" "cls" "I") ∈ lw_all := lw_g (lw_at lw_m4 227 rfl) rfl
theorem q1340 : (Jvm.Cond.fieldLink "WasteHouse$BarredStores" (99 : Nat) "WasteHouse$BarredStores$Load" "grams" "J") ∈ lw_all := lw_g (lw_at lw_m4 228 rfl) rfl
theorem q1341 : (Jvm.Cond.fieldLink "WasteHouse$BarredStores" (103 : Nat) "WasteHouse$BarredStores$Load" "litres" "J") ∈ lw_all := lw_g (lw_at lw_m4 229 rfl) rfl
theorem q1342 : (Jvm.Cond.fieldLink "WasteHouse$BarredStores" (106 : Nat) "WasteHouse$BarredStores$Load" "at" "I") ∈ lw_all := lw_g (lw_at lw_m4 230 rfl) rfl
theorem q1343 : (Jvm.Cond.fieldLink "WasteHouse$BarredStores" (61 : Nat) "WasteHouse$BarredStores$Load" "gone" "Z") ∈ lw_all := lw_g (lw_at lw_m4 231 rfl) rfl
theorem q1344 : (Jvm.Cond.fieldLink "WasteHouse$BarredStores" (164 : Nat) "WasteHouse$BarredStores$Load" "came" "I") ∈ lw_all := lw_g (lw_at lw_m4 232 rfl) rfl
theorem q1358 : (Jvm.Cond.constant "WasteHouse$BarredStores" (54 : Nat) (1000000000 : Int32)) ∈ lw_all := lw_g (lw_at lw_m5 6 rfl) rfl
theorem q1359 : (Jvm.Cond.fieldLink "WasteHouse$BarredStores" (9 : Nat) "WasteHouse$BarredStores" "places" "[LWasteHouse$BarredStores$Place;") ∈ lw_all := lw_g (lw_at lw_m5 7 rfl) rfl
theorem q1360 : (Jvm.Cond.fieldLink "WasteHouse$BarredStores" (55 : Nat) "WasteHouse$BarredStores" "placeCount" "I") ∈ lw_all := lw_g (lw_at lw_m5 8 rfl) rfl
theorem q1361 : (Jvm.Cond.fieldLink "WasteHouse$BarredStores" (17 : Nat) "WasteHouse$BarredStores" "loads" "[LWasteHouse$BarredStores$Load;") ∈ lw_all := lw_g (lw_at lw_m5 9 rfl) rfl
theorem q1362 : (Jvm.Cond.fieldLink "WasteHouse$BarredStores" (58 : Nat) "WasteHouse$BarredStores" "loadCount" "I") ∈ lw_all := lw_g (lw_at lw_m5 10 rfl) rfl
theorem q1363 : (Jvm.Cond.fieldLink "WasteHouse$BarredStores" (21 : Nat) "WasteHouse$BarredStores" "metres" "[S") ∈ lw_all := lw_g (lw_at lw_m5 11 rfl) rfl
theorem q1364 : (Jvm.Cond.fieldLink "WasteHouse$BarredStores" (25 : Nat) "WasteHouse$BarredStores" "mosts" "[I") ∈ lw_all := lw_g (lw_at lw_m5 12 rfl) rfl
theorem q1365 : (Jvm.Cond.fieldLink "WasteHouse$BarredStores" (29 : Nat) "WasteHouse$BarredStores" "trials" "[B") ∈ lw_all := lw_g (lw_at lw_m5 13 rfl) rfl
theorem q1366 : (Jvm.Cond.fieldLink "WasteHouse$BarredStores" (161 : Nat) "WasteHouse$BarredStores" "arrivals" "I") ∈ lw_all := lw_g (lw_at lw_m5 14 rfl) rfl
theorem q1367 : (Jvm.Cond.fieldLink "WasteHouse$BarredStores" (33 : Nat) "WasteHouse$BarredStores" "at" "[I") ∈ lw_all := lw_g (lw_at lw_m5 15 rfl) rfl
theorem q1368 : (Jvm.Cond.fieldLink "WasteHouse$BarredStores" (36 : Nat) "WasteHouse$BarredStores" "far" "[B") ∈ lw_all := lw_g (lw_at lw_m5 16 rfl) rfl
theorem q1369 : (Jvm.Cond.fieldLink "WasteHouse$BarredStores" (39 : Nat) "WasteHouse$BarredStores" "queue" "[S") ∈ lw_all := lw_g (lw_at lw_m5 17 rfl) rfl
theorem q1370 : (Jvm.Cond.fieldLink "WasteHouse$BarredStores" (42 : Nat) "WasteHouse$BarredStores" "stepLoads" "[B") ∈ lw_all := lw_g (lw_at lw_m5 18 rfl) rfl
theorem q1371 : (Jvm.Cond.fieldLink "WasteHouse$BarredStores" (45 : Nat) "WasteHouse$BarredStores" "stepPlaces" "[B") ∈ lw_all := lw_g (lw_at lw_m5 19 rfl) rfl
theorem q1372 : (Jvm.Cond.fieldLink "WasteHouse$BarredStores" (48 : Nat) "WasteHouse$BarredStores" "steps" "I") ∈ lw_all := lw_g (lw_at lw_m5 20 rfl) rfl
theorem q1373 : (Jvm.Cond.fieldLink "WasteHouse$BarredStores" (187 : Nat) "WasteHouse$BarredStores" "met" "I") ∈ lw_all := lw_g (lw_at lw_m5 21 rfl) rfl
theorem q1374 : (Jvm.Cond.laysFinal "WasteHouse$BarredStores" "WasteHouse$BarredStores" "places" "[LWasteHouse$BarredStores$Place;") ∈ lw_all := lw_g (lw_at lw_m5 22 rfl) rfl
theorem q1375 : (Jvm.Cond.soleField "WasteHouse$BarredStores" "places") ∈ lw_all := lw_g (lw_at lw_m5 23 rfl) rfl
theorem q1376 : (Jvm.Cond.lays "WasteHouse$BarredStores" "WasteHouse$BarredStores" "placeCount" "I") ∈ lw_all := lw_g (lw_at lw_m5 24 rfl) rfl
theorem q1377 : (Jvm.Cond.soleField "WasteHouse$BarredStores" "placeCount") ∈ lw_all := lw_g (lw_at lw_m5 25 rfl) rfl
theorem q1378 : (Jvm.Cond.laysFinal "WasteHouse$BarredStores" "WasteHouse$BarredStores" "loads" "[LWasteHouse$BarredStores$Load;") ∈ lw_all := lw_g (lw_at lw_m5 26 rfl) rfl
theorem q1379 : (Jvm.Cond.soleField "WasteHouse$BarredStores" "loads") ∈ lw_all := lw_g (lw_at lw_m5 27 rfl) rfl
theorem q1380 : (Jvm.Cond.lays "WasteHouse$BarredStores" "WasteHouse$BarredStores" "loadCount" "I") ∈ lw_all := lw_g (lw_at lw_m5 28 rfl) rfl
theorem q1381 : (Jvm.Cond.soleField "WasteHouse$BarredStores" "loadCount") ∈ lw_all := lw_g (lw_at lw_m5 29 rfl) rfl
theorem q1382 : (Jvm.Cond.laysFinal "WasteHouse$BarredStores" "WasteHouse$BarredStores" "metres" "[S") ∈ lw_all := lw_g (lw_at lw_m5 30 rfl) rfl
theorem q1383 : (Jvm.Cond.soleField "WasteHouse$BarredStores" "metres") ∈ lw_all := lw_g (lw_at lw_m5 31 rfl) rfl
theorem q1384 : (Jvm.Cond.laysFinal "WasteHouse$BarredStores" "WasteHouse$BarredStores" "mosts" "[I") ∈ lw_all := lw_g (lw_at lw_m5 32 rfl) rfl
theorem q1385 : (Jvm.Cond.soleField "WasteHouse$BarredStores" "mosts") ∈ lw_all := lw_g (lw_at lw_m5 33 rfl) rfl
theorem q1386 : (Jvm.Cond.laysFinal "WasteHouse$BarredStores" "WasteHouse$BarredStores" "trials" "[B") ∈ lw_all := lw_g (lw_at lw_m5 34 rfl) rfl
theorem q1387 : (Jvm.Cond.soleField "WasteHouse$BarredStores" "trials") ∈ lw_all := lw_g (lw_at lw_m5 35 rfl) rfl
theorem q1388 : (Jvm.Cond.lays "WasteHouse$BarredStores" "WasteHouse$BarredStores" "arrivals" "I") ∈ lw_all := lw_g (lw_at lw_m5 36 rfl) rfl
theorem q1389 : (Jvm.Cond.soleField "WasteHouse$BarredStores" "arrivals") ∈ lw_all := lw_g (lw_at lw_m5 37 rfl) rfl
theorem q1390 : (Jvm.Cond.laysFinal "WasteHouse$BarredStores" "WasteHouse$BarredStores" "at" "[I") ∈ lw_all := lw_g (lw_at lw_m5 38 rfl) rfl
theorem q1391 : (Jvm.Cond.soleField "WasteHouse$BarredStores" "at") ∈ lw_all := lw_g (lw_at lw_m5 39 rfl) rfl
theorem q1392 : (Jvm.Cond.laysFinal "WasteHouse$BarredStores" "WasteHouse$BarredStores" "far" "[B") ∈ lw_all := lw_g (lw_at lw_m5 40 rfl) rfl
theorem q1393 : (Jvm.Cond.soleField "WasteHouse$BarredStores" "far") ∈ lw_all := lw_g (lw_at lw_m5 41 rfl) rfl
theorem q1394 : (Jvm.Cond.laysFinal "WasteHouse$BarredStores" "WasteHouse$BarredStores" "queue" "[S") ∈ lw_all := lw_g (lw_at lw_m5 42 rfl) rfl
theorem q1395 : (Jvm.Cond.soleField "WasteHouse$BarredStores" "queue") ∈ lw_all := lw_g (lw_at lw_m5 43 rfl) rfl
theorem q1396 : (Jvm.Cond.laysFinal "WasteHouse$BarredStores" "WasteHouse$BarredStores" "stepLoads" "[B") ∈ lw_all := lw_g (lw_at lw_m5 44 rfl) rfl
theorem q1397 : (Jvm.Cond.soleField "WasteHouse$BarredStores" "stepLoads") ∈ lw_all := lw_g (lw_at lw_m5 45 rfl) rfl
theorem q1398 : (Jvm.Cond.laysFinal "WasteHouse$BarredStores" "WasteHouse$BarredStores" "stepPlaces" "[B") ∈ lw_all := lw_g (lw_at lw_m5 46 rfl) rfl
theorem q1399 : (Jvm.Cond.soleField "WasteHouse$BarredStores" "stepPlaces") ∈ lw_all := lw_g (lw_at lw_m5 47 rfl) rfl
theorem q1400 : (Jvm.Cond.lays "WasteHouse$BarredStores" "WasteHouse$BarredStores" "steps" "I") ∈ lw_all := lw_g (lw_at lw_m5 48 rfl) rfl
theorem q1401 : (Jvm.Cond.soleField "WasteHouse$BarredStores" "steps") ∈ lw_all := lw_g (lw_at lw_m5 49 rfl) rfl
theorem q1402 : (Jvm.Cond.lays "WasteHouse$BarredStores" "WasteHouse$BarredStores" "met" "I") ∈ lw_all := lw_g (lw_at lw_m5 50 rfl) rfl
theorem q1403 : (Jvm.Cond.soleField "WasteHouse$BarredStores" "met") ∈ lw_all := lw_g (lw_at lw_m5 51 rfl) rfl
theorem q1404 : (Jvm.Cond.superclass "WasteHouse$BarredStores" "java/lang/Object") ∈ lw_all := lw_g (lw_at lw_m5 52 rfl) rfl
theorem q1977 : (Jvm.Cond.selects "WasteHouse$BarredStores" ({ cls := "java/lang/Object", name := "getClass", desc := "()Ljava/lang/Class;" } : Jvm.MethodName) ({ cls := "java/lang/Object", name := "getClass", desc := "()Ljava/lang/Class;" } : Jvm.MethodName)) ∈ lw_all := lw_g (lw_at lw_m7 145 rfl) rfl
theorem q3085 : (Jvm.Cond.selects "WasteHouse$BarredStores" ({ cls := "java/lang/Object", name := "equals", desc := "(Ljava/lang/Object;)Z" } : Jvm.MethodName) ({ cls := "java/lang/Object", name := "equals", desc := "(Ljava/lang/Object;)Z" } : Jvm.MethodName)) ∈ lw_all := lw_g (lw_at lw_m12 53 rfl) rfl
theorem q3600 : (Jvm.Cond.selects "WasteHouse$BarredStores" ({ cls := "java/lang/Object", name := "hashCode", desc := "()I" } : Jvm.MethodName) ({ cls := "java/lang/Object", name := "hashCode", desc := "()I" } : Jvm.MethodName)) ∈ lw_all := lw_g (lw_at lw_m14 88 rfl) rfl
theorem q5503 : (Jvm.Cond.instanceMethod ({ cls := "WasteHouse$BarredStores", name := "load", desc := "(IJJ)I" } : Jvm.MethodName)) ∈ lw_all := lw_g (lw_at lw_m22 71 rfl) rfl
theorem q5504 : (Jvm.Cond.selects "WasteHouse$BarredStores" ({ cls := "WasteHouse$BarredStores", name := "load", desc := "(IJJ)I" } : Jvm.MethodName) ({ cls := "WasteHouse$BarredStores", name := "load", desc := "(IJJ)I" } : Jvm.MethodName)) ∈ lw_all := lw_g (lw_at lw_m22 72 rfl) rfl
theorem q5505 : (Jvm.Cond.code ({ cls := "WasteHouse$BarredStores", name := "load", desc := "(IJJ)I" } : Jvm.MethodName) prog_6_method_9_code (7 : Nat) (Option.some Jvm.ClassFile.FieldType.int)) ∈ lw_all := lw_g (lw_at lw_m22 73 rfl) rfl
theorem q5506 : (Jvm.Cond.methodLink "WasteHouse$BarredStores" (65 : Nat) ({ cls := "WasteHouse$BarredStores", name := "isClass", desc := "(I)Z" } : Jvm.MethodName)) ∈ lw_all := lw_g (lw_at lw_m22 74 rfl) rfl
theorem q5507 : (Jvm.Cond.static ({ cls := "WasteHouse$BarredStores", name := "isClass", desc := "(I)Z" } : Jvm.MethodName)) ∈ lw_all := lw_g (lw_at lw_m22 75 rfl) rfl
theorem q5508 : (Jvm.Cond.code ({ cls := "WasteHouse$BarredStores", name := "isClass", desc := "(I)Z" } : Jvm.MethodName) prog_6_method_3_code (1 : Nat) (Option.some Jvm.ClassFile.FieldType.boolean)) ∈ lw_all := lw_g (lw_at lw_m22 76 rfl) rfl
theorem q5509 : (Jvm.Cond.constantLong "WasteHouse$BarredStores" (92 : Nat) (100000000 : Int64)) ∈ lw_all := lw_g (lw_at lw_m22 77 rfl) rfl
theorem q5510 : (Jvm.Cond.methodLink "WasteHouse$BarredStores" (71 : Nat) ({ cls := "WasteHouse$BarredStores", name := "isIn", desc := "(JJJ)Z" } : Jvm.MethodName)) ∈ lw_all := lw_g (lw_at lw_m22 78 rfl) rfl
theorem q5511 : (Jvm.Cond.static ({ cls := "WasteHouse$BarredStores", name := "isIn", desc := "(JJJ)Z" } : Jvm.MethodName)) ∈ lw_all := lw_g (lw_at lw_m22 79 rfl) rfl
theorem q5512 : (Jvm.Cond.code ({ cls := "WasteHouse$BarredStores", name := "isIn", desc := "(JJJ)Z" } : Jvm.MethodName) prog_6_method_2_code (6 : Nat) (Option.some Jvm.ClassFile.FieldType.boolean)) ∈ lw_all := lw_g (lw_at lw_m22 80 rfl) rfl
theorem q5513 : (Jvm.Cond.constantLong "WasteHouse$BarredStores" (94 : Nat) (100000 : Int64)) ∈ lw_all := lw_g (lw_at lw_m22 81 rfl) rfl
theorem q5515 : (Jvm.Cond.instanceMethod ({ cls := "WasteHouse$BarredStores", name := "put", desc := "(II)I" } : Jvm.MethodName)) ∈ lw_all := lw_g (lw_at lw_m22 83 rfl) rfl
theorem q5516 : (Jvm.Cond.selects "WasteHouse$BarredStores" ({ cls := "WasteHouse$BarredStores", name := "put", desc := "(II)I" } : Jvm.MethodName) ({ cls := "WasteHouse$BarredStores", name := "put", desc := "(II)I" } : Jvm.MethodName)) ∈ lw_all := lw_g (lw_at lw_m22 84 rfl) rfl
theorem q5517 : (Jvm.Cond.code ({ cls := "WasteHouse$BarredStores", name := "put", desc := "(II)I" } : Jvm.MethodName) prog_6_method_18_code (4 : Nat) (Option.some Jvm.ClassFile.FieldType.int)) ∈ lw_all := lw_g (lw_at lw_m22 85 rfl) rfl
theorem q5518 : (Jvm.Cond.methodLink "WasteHouse$BarredStores" (147 : Nat) ({ cls := "WasteHouse$BarredStores", name := "isLoad", desc := "(I)Z" } : Jvm.MethodName)) ∈ lw_all := lw_g (lw_at lw_m22 86 rfl) rfl
theorem q5519 : (Jvm.Cond.privateMethod ({ cls := "WasteHouse$BarredStores", name := "isLoad", desc := "(I)Z" } : Jvm.MethodName)) ∈ lw_tbl := lw_at lw_m22 87 rfl
theorem q5520 : (Jvm.Cond.instanceMethod ({ cls := "WasteHouse$BarredStores", name := "isLoad", desc := "(I)Z" } : Jvm.MethodName)) ∈ lw_all := lw_g (lw_at lw_m22 88 rfl) rfl
theorem q5521 : (Jvm.Cond.code ({ cls := "WasteHouse$BarredStores", name := "isLoad", desc := "(I)Z" } : Jvm.MethodName) prog_6_method_5_code (2 : Nat) (Option.some Jvm.ClassFile.FieldType.boolean)) ∈ lw_all := lw_g (lw_at lw_m22 89 rfl) rfl
theorem q5522 : (Jvm.Cond.methodLink "WasteHouse$BarredStores" (150 : Nat) ({ cls := "WasteHouse$BarredStores", name := "isPlace", desc := "(I)Z" } : Jvm.MethodName)) ∈ lw_all := lw_g (lw_at lw_m22 90 rfl) rfl
theorem q5523 : (Jvm.Cond.privateMethod ({ cls := "WasteHouse$BarredStores", name := "isPlace", desc := "(I)Z" } : Jvm.MethodName)) ∈ lw_tbl := lw_at lw_m22 91 rfl
theorem q5524 : (Jvm.Cond.instanceMethod ({ cls := "WasteHouse$BarredStores", name := "isPlace", desc := "(I)Z" } : Jvm.MethodName)) ∈ lw_all := lw_g (lw_at lw_m22 92 rfl) rfl
theorem q5525 : (Jvm.Cond.code ({ cls := "WasteHouse$BarredStores", name := "isPlace", desc := "(I)Z" } : Jvm.MethodName) prog_6_method_4_code (2 : Nat) (Option.some Jvm.ClassFile.FieldType.boolean)) ∈ lw_all := lw_g (lw_at lw_m22 93 rfl) rfl
theorem q5526 : (Jvm.Cond.methodLink "WasteHouse$BarredStores" (140 : Nat) ({ cls := "WasteHouse$BarredStores", name := "look", desc := "()V" } : Jvm.MethodName)) ∈ lw_all := lw_g (lw_at lw_m22 94 rfl) rfl
theorem q5527 : (Jvm.Cond.privateMethod ({ cls := "WasteHouse$BarredStores", name := "look", desc := "()V" } : Jvm.MethodName)) ∈ lw_tbl := lw_at lw_m22 95 rfl
theorem q5528 : (Jvm.Cond.instanceMethod ({ cls := "WasteHouse$BarredStores", name := "look", desc := "()V" } : Jvm.MethodName)) ∈ lw_all := lw_g (lw_at lw_m22 96 rfl) rfl
theorem q5529 : (Jvm.Cond.code ({ cls := "WasteHouse$BarredStores", name := "look", desc := "()V" } : Jvm.MethodName) prog_6_method_10_code (2 : Nat) (Option.none : Option Jvm.ClassFile.FieldType)) ∈ lw_all := lw_g (lw_at lw_m22 97 rfl) rfl
theorem q5530 : (Jvm.Cond.methodLink "WasteHouse$BarredStores" (153 : Nat) ({ cls := "WasteHouse$BarredStores", name := "reason", desc := "(II)I" } : Jvm.MethodName)) ∈ lw_all := lw_g (lw_at lw_m22 98 rfl) rfl
theorem q5531 : (Jvm.Cond.privateMethod ({ cls := "WasteHouse$BarredStores", name := "reason", desc := "(II)I" } : Jvm.MethodName)) ∈ lw_tbl := lw_at lw_m22 99 rfl
theorem q5532 : (Jvm.Cond.instanceMethod ({ cls := "WasteHouse$BarredStores", name := "reason", desc := "(II)I" } : Jvm.MethodName)) ∈ lw_all := lw_g (lw_at lw_m22 100 rfl) rfl
theorem q5533 : (Jvm.Cond.code ({ cls := "WasteHouse$BarredStores", name := "reason", desc := "(II)I" } : Jvm.MethodName) prog_6_method_19_code (4 : Nat) (Option.some Jvm.ClassFile.FieldType.int)) ∈ lw_all := lw_g (lw_at lw_m22 101 rfl) rfl
theorem q5534 : (Jvm.Cond.methodLink "WasteHouse$BarredStores" (130 : Nat) ({ cls := "WasteHouse$BarredStores", name := "clashing", desc := "(I)I" } : Jvm.MethodName)) ∈ lw_all := lw_g (lw_at lw_m22 102 rfl) rfl
theorem q5535 : (Jvm.Cond.privateMethod ({ cls := "WasteHouse$BarredStores", name := "clashing", desc := "(I)I" } : Jvm.MethodName)) ∈ lw_tbl := lw_at lw_m22 103 rfl
theorem q5536 : (Jvm.Cond.instanceMethod ({ cls := "WasteHouse$BarredStores", name := "clashing", desc := "(I)I" } : Jvm.MethodName)) ∈ lw_all := lw_g (lw_at lw_m22 104 rfl) rfl
theorem q5537 : (Jvm.Cond.code ({ cls := "WasteHouse$BarredStores", name := "clashing", desc := "(I)I" } : Jvm.MethodName) prog_6_method_12_code (3 : Nat) (Option.some Jvm.ClassFile.FieldType.int)) ∈ lw_all := lw_g (lw_at lw_m22 105 rfl) rfl
theorem q5538 : (Jvm.Cond.methodLink "WasteHouse$BarredStores" (112 : Nat) ({ cls := "WasteHouse$BarredStores", name := "clash", desc := "(II)Z" } : Jvm.MethodName)) ∈ lw_all := lw_g (lw_at lw_m22 106 rfl) rfl
theorem q5539 : (Jvm.Cond.privateMethod ({ cls := "WasteHouse$BarredStores", name := "clash", desc := "(II)Z" } : Jvm.MethodName)) ∈ lw_tbl := lw_at lw_m22 107 rfl
theorem q5540 : (Jvm.Cond.instanceMethod ({ cls := "WasteHouse$BarredStores", name := "clash", desc := "(II)Z" } : Jvm.MethodName)) ∈ lw_all := lw_g (lw_at lw_m22 108 rfl) rfl
theorem q5541 : (Jvm.Cond.code ({ cls := "WasteHouse$BarredStores", name := "clash", desc := "(II)Z" } : Jvm.MethodName) prog_6_method_11_code (4 : Nat) (Option.some Jvm.ClassFile.FieldType.boolean)) ∈ lw_all := lw_g (lw_at lw_m22 109 rfl) rfl
theorem q5542 : (Jvm.Cond.methodLink "WasteHouse$BarredStores" (108 : Nat) ({ cls := "WasteHouse$BarredStores$Place", name := "away", desc := "(LWasteHouse$BarredStores$Place;)I" } : Jvm.MethodName)) ∈ lw_all := lw_g (lw_at lw_m22 110 rfl) rfl
theorem q5546 : (Jvm.Cond.methodLink "WasteHouse$BarredStores" (134 : Nat) ({ cls := "WasteHouse$BarredStores", name := "isTooMuch", desc := "(I)Z" } : Jvm.MethodName)) ∈ lw_all := lw_g (lw_at lw_m22 114 rfl) rfl
theorem q5547 : (Jvm.Cond.privateMethod ({ cls := "WasteHouse$BarredStores", name := "isTooMuch", desc := "(I)Z" } : Jvm.MethodName)) ∈ lw_tbl := lw_at lw_m22 115 rfl
theorem q5548 : (Jvm.Cond.instanceMethod ({ cls := "WasteHouse$BarredStores", name := "isTooMuch", desc := "(I)Z" } : Jvm.MethodName)) ∈ lw_all := lw_g (lw_at lw_m22 116 rfl) rfl
theorem q5549 : (Jvm.Cond.code ({ cls := "WasteHouse$BarredStores", name := "isTooMuch", desc := "(I)Z" } : Jvm.MethodName) prog_6_method_13_code (5 : Nat) (Option.some Jvm.ClassFile.FieldType.boolean)) ∈ lw_all := lw_g (lw_at lw_m22 117 rfl) rfl
theorem q5550 : (Jvm.Cond.methodLink "WasteHouse$BarredStores" (137 : Nat) ({ cls := "WasteHouse$BarredStores", name := "isTooSmall", desc := "(I)Z" } : Jvm.MethodName)) ∈ lw_all := lw_g (lw_at lw_m22 118 rfl) rfl
theorem q5551 : (Jvm.Cond.privateMethod ({ cls := "WasteHouse$BarredStores", name := "isTooSmall", desc := "(I)Z" } : Jvm.MethodName)) ∈ lw_tbl := lw_at lw_m22 119 rfl
theorem q5552 : (Jvm.Cond.instanceMethod ({ cls := "WasteHouse$BarredStores", name := "isTooSmall", desc := "(I)Z" } : Jvm.MethodName)) ∈ lw_all := lw_g (lw_at lw_m22 120 rfl) rfl
theorem q5553 : (Jvm.Cond.code ({ cls := "WasteHouse$BarredStores", name := "isTooSmall", desc := "(I)Z" } : Jvm.MethodName) prog_6_method_15_code (2 : Nat) (Option.some Jvm.ClassFile.FieldType.boolean)) ∈ lw_all := lw_g (lw_at lw_m22 121 rfl) rfl
theorem q5554 : (Jvm.Cond.methodLink "WasteHouse$BarredStores" (126 : Nat) ({ cls := "WasteHouse$BarredStores", name := "needed", desc := "(I)J" } : Jvm.MethodName)) ∈ lw_all := lw_g (lw_at lw_m22 122 rfl) rfl
theorem q5555 : (Jvm.Cond.privateMethod ({ cls := "WasteHouse$BarredStores", name := "needed", desc := "(I)J" } : Jvm.MethodName)) ∈ lw_tbl := lw_at lw_m22 123 rfl
theorem q5556 : (Jvm.Cond.instanceMethod ({ cls := "WasteHouse$BarredStores", name := "needed", desc := "(I)J" } : Jvm.MethodName)) ∈ lw_all := lw_g (lw_at lw_m22 124 rfl) rfl
theorem q5557 : (Jvm.Cond.code ({ cls := "WasteHouse$BarredStores", name := "needed", desc := "(I)J" } : Jvm.MethodName) prog_6_method_14_code (7 : Nat) (Option.some Jvm.ClassFile.FieldType.long)) ∈ lw_all := lw_g (lw_at lw_m22 125 rfl) rfl
theorem q5558 : (Jvm.Cond.methodLink "WasteHouse$BarredStores" (116 : Nat) ({ cls := "java/lang/Math", name := "max", desc := "(JJ)J" } : Jvm.MethodName)) ∈ lw_all := lw_g (lw_at lw_m22 126 rfl) rfl
theorem q5559 : (Jvm.Cond.constantLong "WasteHouse$BarredStores" (122 : Nat) (9 : Int64)) ∈ lw_all := lw_g (lw_at lw_m22 127 rfl) rfl
theorem q5560 : (Jvm.Cond.constantLong "WasteHouse$BarredStores" (124 : Nat) (10 : Int64)) ∈ lw_all := lw_g (lw_at lw_m22 128 rfl) rfl
theorem q5561 : (Jvm.Cond.methodLink "WasteHouse$BarredStores" (143 : Nat) ({ cls := "WasteHouse$BarredStores", name := "isGood", desc := "()Z" } : Jvm.MethodName)) ∈ lw_all := lw_g (lw_at lw_m22 129 rfl) rfl
theorem q5562 : (Jvm.Cond.privateMethod ({ cls := "WasteHouse$BarredStores", name := "isGood", desc := "()Z" } : Jvm.MethodName)) ∈ lw_tbl := lw_at lw_m22 130 rfl
theorem q5563 : (Jvm.Cond.instanceMethod ({ cls := "WasteHouse$BarredStores", name := "isGood", desc := "()Z" } : Jvm.MethodName)) ∈ lw_all := lw_g (lw_at lw_m22 131 rfl) rfl
theorem q5564 : (Jvm.Cond.code ({ cls := "WasteHouse$BarredStores", name := "isGood", desc := "()Z" } : Jvm.MethodName) prog_6_method_16_code (3 : Nat) (Option.some Jvm.ClassFile.FieldType.boolean)) ∈ lw_all := lw_g (lw_at lw_m22 132 rfl) rfl
theorem q5565 : (Jvm.Cond.methodLink "WasteHouse$BarredStores" (157 : Nat) ({ cls := "WasteHouse$BarredStores", name := "bring", desc := "(II)V" } : Jvm.MethodName)) ∈ lw_all := lw_g (lw_at lw_m22 133 rfl) rfl
theorem q5566 : (Jvm.Cond.privateMethod ({ cls := "WasteHouse$BarredStores", name := "bring", desc := "(II)V" } : Jvm.MethodName)) ∈ lw_tbl := lw_at lw_m22 134 rfl
theorem q5567 : (Jvm.Cond.instanceMethod ({ cls := "WasteHouse$BarredStores", name := "bring", desc := "(II)V" } : Jvm.MethodName)) ∈ lw_all := lw_g (lw_at lw_m22 135 rfl) rfl
theorem q5568 : (Jvm.Cond.code ({ cls := "WasteHouse$BarredStores", name := "bring", desc := "(II)V" } : Jvm.MethodName) prog_6_method_20_code (4 : Nat) (Option.none : Option Jvm.ClassFile.FieldType)) ∈ lw_all := lw_g (lw_at lw_m22 136 rfl) rfl
theorem q5673 : (Jvm.Cond.instanceMethod ({ cls := "WasteHouse$BarredStores", name := "kept", desc := "()Z" } : Jvm.MethodName)) ∈ lw_all := lw_g (lw_at lw_m23 1 rfl) rfl
theorem q5674 : (Jvm.Cond.selects "WasteHouse$BarredStores" ({ cls := "WasteHouse$BarredStores", name := "kept", desc := "()Z" } : Jvm.MethodName) ({ cls := "WasteHouse$BarredStores", name := "kept", desc := "()Z" } : Jvm.MethodName)) ∈ lw_all := lw_g (lw_at lw_m23 2 rfl) rfl
theorem q5675 : (Jvm.Cond.code ({ cls := "WasteHouse$BarredStores", name := "kept", desc := "()Z" } : Jvm.MethodName) prog_6_method_17_code (1 : Nat) (Option.some Jvm.ClassFile.FieldType.boolean)) ∈ lw_all := lw_g (lw_at lw_m23 3 rfl) rfl
theorem q6345 : (Jvm.Cond.instanceMethod ({ cls := "WasteHouse$BarredStores", name := "bar", desc := "(III)Z" } : Jvm.MethodName)) ∈ lw_all := lw_g (lw_at lw_m25 193 rfl) rfl
theorem q6346 : (Jvm.Cond.selects "WasteHouse$BarredStores" ({ cls := "WasteHouse$BarredStores", name := "bar", desc := "(III)Z" } : Jvm.MethodName) ({ cls := "WasteHouse$BarredStores", name := "bar", desc := "(III)Z" } : Jvm.MethodName)) ∈ lw_all := lw_g (lw_at lw_m25 194 rfl) rfl
theorem q6347 : (Jvm.Cond.code ({ cls := "WasteHouse$BarredStores", name := "bar", desc := "(III)Z" } : Jvm.MethodName) prog_6_method_6_code (4 : Nat) (Option.some Jvm.ClassFile.FieldType.boolean)) ∈ lw_all := lw_g (lw_at lw_m25 195 rfl) rfl
theorem q6348 : (Jvm.Cond.constantLong "WasteHouse$BarredStores" (69 : Nat) (3000 : Int64)) ∈ lw_all := lw_g (lw_at lw_m25 196 rfl) rfl
theorem q6352 : (Jvm.Cond.instanceMethod ({ cls := "WasteHouse$BarredStores", name := "most", desc := "(IJ)Z" } : Jvm.MethodName)) ∈ lw_all := lw_g (lw_at lw_m25 200 rfl) rfl
theorem q6353 : (Jvm.Cond.selects "WasteHouse$BarredStores" ({ cls := "WasteHouse$BarredStores", name := "most", desc := "(IJ)Z" } : Jvm.MethodName) ({ cls := "WasteHouse$BarredStores", name := "most", desc := "(IJ)Z" } : Jvm.MethodName)) ∈ lw_all := lw_g (lw_at lw_m25 201 rfl) rfl
theorem q6354 : (Jvm.Cond.code ({ cls := "WasteHouse$BarredStores", name := "most", desc := "(IJ)Z" } : Jvm.MethodName) prog_6_method_7_code (4 : Nat) (Option.some Jvm.ClassFile.FieldType.boolean)) ∈ lw_all := lw_g (lw_at lw_m25 202 rfl) rfl
theorem q6355 : (Jvm.Cond.constantLong "WasteHouse$BarredStores" (75 : Nat) (1000000000 : Int64)) ∈ lw_all := lw_g (lw_at lw_m25 203 rfl) rfl
theorem q6357 : (Jvm.Cond.instanceMethod ({ cls := "WasteHouse$BarredStores", name := "place", desc := "(JJJ)I" } : Jvm.MethodName)) ∈ lw_all := lw_g (lw_at lw_m25 205 rfl) rfl
theorem q6358 : (Jvm.Cond.selects "WasteHouse$BarredStores" ({ cls := "WasteHouse$BarredStores", name := "place", desc := "(JJJ)I" } : Jvm.MethodName) ({ cls := "WasteHouse$BarredStores", name := "place", desc := "(JJJ)I" } : Jvm.MethodName)) ∈ lw_all := lw_g (lw_at lw_m25 206 rfl) rfl
theorem q6359 : (Jvm.Cond.code ({ cls := "WasteHouse$BarredStores", name := "place", desc := "(JJJ)I" } : Jvm.MethodName) prog_6_method_8_code (8 : Nat) (Option.some Jvm.ClassFile.FieldType.int)) ∈ lw_all := lw_g (lw_at lw_m25 207 rfl) rfl
theorem q6360 : (Jvm.Cond.constantLong "WasteHouse$BarredStores" (77 : Nat) (-1000 : Int64)) ∈ lw_all := lw_g (lw_at lw_m25 208 rfl) rfl
theorem q6361 : (Jvm.Cond.constantLong "WasteHouse$BarredStores" (79 : Nat) (1000 : Int64)) ∈ lw_all := lw_g (lw_at lw_m25 209 rfl) rfl
theorem q6362 : (Jvm.Cond.constantLong "WasteHouse$BarredStores" (81 : Nat) (1000000 : Int64)) ∈ lw_all := lw_g (lw_at lw_m25 210 rfl) rfl
theorem q6366 : (Jvm.Cond.instanceMethod ({ cls := "WasteHouse$BarredStores", name := "placeOf", desc := "(I)I" } : Jvm.MethodName)) ∈ lw_all := lw_g (lw_at lw_m25 214 rfl) rfl
theorem q6367 : (Jvm.Cond.selects "WasteHouse$BarredStores" ({ cls := "WasteHouse$BarredStores", name := "placeOf", desc := "(I)I" } : Jvm.MethodName) ({ cls := "WasteHouse$BarredStores", name := "placeOf", desc := "(I)I" } : Jvm.MethodName)) ∈ lw_all := lw_g (lw_at lw_m25 215 rfl) rfl
theorem q6368 : (Jvm.Cond.code ({ cls := "WasteHouse$BarredStores", name := "placeOf", desc := "(I)I" } : Jvm.MethodName) prog_6_method_21_code (2 : Nat) (Option.some Jvm.ClassFile.FieldType.int)) ∈ lw_all := lw_g (lw_at lw_m25 216 rfl) rfl
theorem q6370 : (Jvm.Cond.instanceMethod ({ cls := "WasteHouse$BarredStores", name := "plan", desc := "(I)I" } : Jvm.MethodName)) ∈ lw_all := lw_g (lw_at lw_m25 218 rfl) rfl
theorem q6371 : (Jvm.Cond.selects "WasteHouse$BarredStores" ({ cls := "WasteHouse$BarredStores", name := "plan", desc := "(I)I" } : Jvm.MethodName) ({ cls := "WasteHouse$BarredStores", name := "plan", desc := "(I)I" } : Jvm.MethodName)) ∈ lw_all := lw_g (lw_at lw_m25 219 rfl) rfl
theorem q6372 : (Jvm.Cond.code ({ cls := "WasteHouse$BarredStores", name := "plan", desc := "(I)I" } : Jvm.MethodName) prog_6_method_23_code (6 : Nat) (Option.some Jvm.ClassFile.FieldType.int)) ∈ lw_all := lw_g (lw_at lw_m25 220 rfl) rfl
theorem q6373 : (Jvm.Cond.methodLink "WasteHouse$BarredStores" (167 : Nat) ({ cls := "WasteHouse$BarredStores", name := "isFine", desc := "(I)Z" } : Jvm.MethodName)) ∈ lw_all := lw_g (lw_at lw_m25 221 rfl) rfl
theorem q6374 : (Jvm.Cond.privateMethod ({ cls := "WasteHouse$BarredStores", name := "isFine", desc := "(I)Z" } : Jvm.MethodName)) ∈ lw_tbl := lw_at lw_m25 222 rfl
theorem q6375 : (Jvm.Cond.instanceMethod ({ cls := "WasteHouse$BarredStores", name := "isFine", desc := "(I)Z" } : Jvm.MethodName)) ∈ lw_all := lw_g (lw_at lw_m25 223 rfl) rfl
theorem q6376 : (Jvm.Cond.code ({ cls := "WasteHouse$BarredStores", name := "isFine", desc := "(I)Z" } : Jvm.MethodName) prog_6_method_25_code (2 : Nat) (Option.some Jvm.ClassFile.FieldType.boolean)) ∈ lw_all := lw_g (lw_at lw_m25 224 rfl) rfl
theorem q6377 : (Jvm.Cond.methodLink "WasteHouse$BarredStores" (170 : Nat) ({ cls := "WasteHouse$BarredStores", name := "backFrom", desc := "(I)I" } : Jvm.MethodName)) ∈ lw_all := lw_g (lw_at lw_m25 225 rfl) rfl
theorem q6378 : (Jvm.Cond.privateMethod ({ cls := "WasteHouse$BarredStores", name := "backFrom", desc := "(I)I" } : Jvm.MethodName)) ∈ lw_tbl := lw_at lw_m25 226 rfl
theorem q6379 : (Jvm.Cond.instanceMethod ({ cls := "WasteHouse$BarredStores", name := "backFrom", desc := "(I)I" } : Jvm.MethodName)) ∈ lw_all := lw_g (lw_at lw_m25 227 rfl) rfl
theorem q6380 : (Jvm.Cond.code ({ cls := "WasteHouse$BarredStores", name := "backFrom", desc := "(I)I" } : Jvm.MethodName) prog_6_method_24_code (3 : Nat) (Option.some Jvm.ClassFile.FieldType.int)) ∈ lw_all := lw_g (lw_at lw_m25 228 rfl) rfl
theorem q6382 : (Jvm.Cond.instanceMethod ({ cls := "WasteHouse$BarredStores", name := "moves", desc := "(II)I" } : Jvm.MethodName)) ∈ lw_all := lw_g (lw_at lw_m25 230 rfl) rfl
theorem q6383 : (Jvm.Cond.selects "WasteHouse$BarredStores" ({ cls := "WasteHouse$BarredStores", name := "moves", desc := "(II)I" } : Jvm.MethodName) ({ cls := "WasteHouse$BarredStores", name := "moves", desc := "(II)I" } : Jvm.MethodName)) ∈ lw_all := lw_g (lw_at lw_m25 231 rfl) rfl
theorem q6384 : (Jvm.Cond.code ({ cls := "WasteHouse$BarredStores", name := "moves", desc := "(II)I" } : Jvm.MethodName) prog_6_method_28_code (6 : Nat) (Option.some Jvm.ClassFile.FieldType.int)) ∈ lw_all := lw_g (lw_at lw_m25 232 rfl) rfl
theorem q6385 : (Jvm.Cond.methodLink "WasteHouse$BarredStores" (173 : Nat) ({ cls := "WasteHouse$BarredStores", name := "encode", desc := "()I" } : Jvm.MethodName)) ∈ lw_all := lw_g (lw_at lw_m25 233 rfl) rfl
theorem q6386 : (Jvm.Cond.privateMethod ({ cls := "WasteHouse$BarredStores", name := "encode", desc := "()I" } : Jvm.MethodName)) ∈ lw_tbl := lw_at lw_m25 234 rfl
theorem q6387 : (Jvm.Cond.instanceMethod ({ cls := "WasteHouse$BarredStores", name := "encode", desc := "()I" } : Jvm.MethodName)) ∈ lw_all := lw_g (lw_at lw_m25 235 rfl) rfl
theorem q6388 : (Jvm.Cond.code ({ cls := "WasteHouse$BarredStores", name := "encode", desc := "()I" } : Jvm.MethodName) prog_6_method_26_code (3 : Nat) (Option.some Jvm.ClassFile.FieldType.int)) ∈ lw_all := lw_g (lw_at lw_m25 236 rfl) rfl
theorem q6389 : (Jvm.Cond.methodLink "WasteHouse$BarredStores" (177 : Nat) ({ cls := "WasteHouse$BarredStores", name := "spread", desc := "(II)I" } : Jvm.MethodName)) ∈ lw_all := lw_g (lw_at lw_m25 237 rfl) rfl
theorem q6390 : (Jvm.Cond.privateMethod ({ cls := "WasteHouse$BarredStores", name := "spread", desc := "(II)I" } : Jvm.MethodName)) ∈ lw_tbl := lw_at lw_m25 238 rfl
theorem q6391 : (Jvm.Cond.instanceMethod ({ cls := "WasteHouse$BarredStores", name := "spread", desc := "(II)I" } : Jvm.MethodName)) ∈ lw_all := lw_g (lw_at lw_m25 239 rfl) rfl
theorem q6392 : (Jvm.Cond.code ({ cls := "WasteHouse$BarredStores", name := "spread", desc := "(II)I" } : Jvm.MethodName) prog_6_method_29_code (8 : Nat) (Option.some Jvm.ClassFile.FieldType.int)) ∈ lw_all := lw_g (lw_at lw_m26 0 rfl) rfl
theorem q6393 : (Jvm.Cond.methodLink "WasteHouse$BarredStores" (190 : Nat) ({ cls := "WasteHouse$BarredStores", name := "meet", desc := "(II)V" } : Jvm.MethodName)) ∈ lw_all := lw_g (lw_at lw_m26 1 rfl) rfl
theorem q6394 : (Jvm.Cond.privateMethod ({ cls := "WasteHouse$BarredStores", name := "meet", desc := "(II)V" } : Jvm.MethodName)) ∈ lw_tbl := lw_at lw_m26 2 rfl
theorem q6395 : (Jvm.Cond.instanceMethod ({ cls := "WasteHouse$BarredStores", name := "meet", desc := "(II)V" } : Jvm.MethodName)) ∈ lw_all := lw_g (lw_at lw_m26 3 rfl) rfl
theorem q6396 : (Jvm.Cond.code ({ cls := "WasteHouse$BarredStores", name := "meet", desc := "(II)V" } : Jvm.MethodName) prog_6_method_30_code (3 : Nat) (Option.none : Option Jvm.ClassFile.FieldType)) ∈ lw_all := lw_g (lw_at lw_m26 4 rfl) rfl
theorem q6397 : (Jvm.Cond.methodLink "WasteHouse$BarredStores" (193 : Nat) ({ cls := "WasteHouse$BarredStores", name := "decode", desc := "(I)V" } : Jvm.MethodName)) ∈ lw_all := lw_g (lw_at lw_m26 5 rfl) rfl
theorem q6398 : (Jvm.Cond.privateMethod ({ cls := "WasteHouse$BarredStores", name := "decode", desc := "(I)V" } : Jvm.MethodName)) ∈ lw_tbl := lw_at lw_m26 6 rfl
theorem q6399 : (Jvm.Cond.instanceMethod ({ cls := "WasteHouse$BarredStores", name := "decode", desc := "(I)V" } : Jvm.MethodName)) ∈ lw_all := lw_g (lw_at lw_m26 7 rfl) rfl
theorem q6400 : (Jvm.Cond.code ({ cls := "WasteHouse$BarredStores", name := "decode", desc := "(I)V" } : Jvm.MethodName) prog_6_method_27_code (4 : Nat) (Option.none : Option Jvm.ClassFile.FieldType)) ∈ lw_all := lw_g (lw_at lw_m26 8 rfl) rfl
theorem q6401 : (Jvm.Cond.methodLink "WasteHouse$BarredStores" (180 : Nat) ({ cls := "WasteHouse$BarredStores", name := "markBack", desc := "(II)V" } : Jvm.MethodName)) ∈ lw_all := lw_g (lw_at lw_m26 9 rfl) rfl
theorem q6402 : (Jvm.Cond.privateMethod ({ cls := "WasteHouse$BarredStores", name := "markBack", desc := "(II)V" } : Jvm.MethodName)) ∈ lw_tbl := lw_at lw_m26 10 rfl
theorem q6403 : (Jvm.Cond.instanceMethod ({ cls := "WasteHouse$BarredStores", name := "markBack", desc := "(II)V" } : Jvm.MethodName)) ∈ lw_all := lw_g (lw_at lw_m26 11 rfl) rfl
theorem q6404 : (Jvm.Cond.code ({ cls := "WasteHouse$BarredStores", name := "markBack", desc := "(II)V" } : Jvm.MethodName) prog_6_method_31_code (9 : Nat) (Option.none : Option Jvm.ClassFile.FieldType)) ∈ lw_all := lw_g (lw_at lw_m26 12 rfl) rfl
theorem q6405 : (Jvm.Cond.methodLink "WasteHouse$BarredStores" (183 : Nat) ({ cls := "WasteHouse$BarredStores", name := "goAlong", desc := "(I)V" } : Jvm.MethodName)) ∈ lw_all := lw_g (lw_at lw_m26 13 rfl) rfl
theorem q6406 : (Jvm.Cond.privateMethod ({ cls := "WasteHouse$BarredStores", name := "goAlong", desc := "(I)V" } : Jvm.MethodName)) ∈ lw_tbl := lw_at lw_m26 14 rfl
theorem q6407 : (Jvm.Cond.instanceMethod ({ cls := "WasteHouse$BarredStores", name := "goAlong", desc := "(I)V" } : Jvm.MethodName)) ∈ lw_all := lw_g (lw_at lw_m26 15 rfl) rfl
theorem q6408 : (Jvm.Cond.code ({ cls := "WasteHouse$BarredStores", name := "goAlong", desc := "(I)V" } : Jvm.MethodName) prog_6_method_32_code (7 : Nat) (Option.none : Option Jvm.ClassFile.FieldType)) ∈ lw_all := lw_g (lw_at lw_m26 16 rfl) rfl
theorem q6410 : (Jvm.Cond.instanceMethod ({ cls := "WasteHouse$BarredStores", name := "step", desc := "(II)I" } : Jvm.MethodName)) ∈ lw_all := lw_g (lw_at lw_m26 18 rfl) rfl
theorem q6411 : (Jvm.Cond.selects "WasteHouse$BarredStores" ({ cls := "WasteHouse$BarredStores", name := "step", desc := "(II)I" } : Jvm.MethodName) ({ cls := "WasteHouse$BarredStores", name := "step", desc := "(II)I" } : Jvm.MethodName)) ∈ lw_all := lw_g (lw_at lw_m26 19 rfl) rfl
theorem q6412 : (Jvm.Cond.code ({ cls := "WasteHouse$BarredStores", name := "step", desc := "(II)I" } : Jvm.MethodName) prog_6_method_33_code (3 : Nat) (Option.some Jvm.ClassFile.FieldType.int)) ∈ lw_all := lw_g (lw_at lw_m26 20 rfl) rfl
theorem q6414 : (Jvm.Cond.instanceMethod ({ cls := "WasteHouse$BarredStores", name := "basin", desc := "(II)J" } : Jvm.MethodName)) ∈ lw_all := lw_g (lw_at lw_m26 22 rfl) rfl
theorem q6415 : (Jvm.Cond.selects "WasteHouse$BarredStores" ({ cls := "WasteHouse$BarredStores", name := "basin", desc := "(II)J" } : Jvm.MethodName) ({ cls := "WasteHouse$BarredStores", name := "basin", desc := "(II)J" } : Jvm.MethodName)) ∈ lw_all := lw_g (lw_at lw_m26 23 rfl) rfl
theorem q6416 : (Jvm.Cond.code ({ cls := "WasteHouse$BarredStores", name := "basin", desc := "(II)J" } : Jvm.MethodName) prog_6_method_34_code (3 : Nat) (Option.some Jvm.ClassFile.FieldType.long)) ∈ lw_all := lw_g (lw_at lw_m26 24 rfl) rfl
theorem q6417 : (Jvm.Cond.constantLong "WasteHouse$BarredStores" (196 : Nat) (-1 : Int64)) ∈ lw_all := lw_g (lw_at lw_m26 25 rfl) rfl
theorem q6420 : (Jvm.Cond.instanceMethod ({ cls := "WasteHouse$BarredStores", name := "trial", desc := "(IID)I" } : Jvm.MethodName)) ∈ lw_all := lw_g (lw_at lw_m26 28 rfl) rfl
theorem q6421 : (Jvm.Cond.selects "WasteHouse$BarredStores" ({ cls := "WasteHouse$BarredStores", name := "trial", desc := "(IID)I" } : Jvm.MethodName) ({ cls := "WasteHouse$BarredStores", name := "trial", desc := "(IID)I" } : Jvm.MethodName)) ∈ lw_all := lw_g (lw_at lw_m26 29 rfl) rfl
theorem q6422 : (Jvm.Cond.code ({ cls := "WasteHouse$BarredStores", name := "trial", desc := "(IID)I" } : Jvm.MethodName) prog_6_method_36_code (6 : Nat) (Option.some Jvm.ClassFile.FieldType.int)) ∈ lw_all := lw_g (lw_at lw_m26 30 rfl) rfl
theorem q6423 : (Jvm.Cond.methodLink "WasteHouse$BarredStores" (198 : Nat) ({ cls := "WasteHouse$BarredStores", name := "areTwo", desc := "(II)Z" } : Jvm.MethodName)) ∈ lw_all := lw_g (lw_at lw_m26 31 rfl) rfl
theorem q6424 : (Jvm.Cond.privateMethod ({ cls := "WasteHouse$BarredStores", name := "areTwo", desc := "(II)Z" } : Jvm.MethodName)) ∈ lw_tbl := lw_at lw_m26 32 rfl
theorem q6425 : (Jvm.Cond.instanceMethod ({ cls := "WasteHouse$BarredStores", name := "areTwo", desc := "(II)Z" } : Jvm.MethodName)) ∈ lw_all := lw_g (lw_at lw_m26 33 rfl) rfl
theorem q6426 : (Jvm.Cond.code ({ cls := "WasteHouse$BarredStores", name := "areTwo", desc := "(II)Z" } : Jvm.MethodName) prog_6_method_35_code (3 : Nat) (Option.some Jvm.ClassFile.FieldType.boolean)) ∈ lw_all := lw_g (lw_at lw_m26 34 rfl) rfl
theorem q6427 : (Jvm.Cond.constantDouble "WasteHouse$BarredStores" (201 : Nat) (13860109328209412096 : UInt64)) ∈ lw_all := lw_g (lw_at lw_m26 35 rfl) rfl
theorem q6428 : (Jvm.Cond.constantDouble "WasteHouse$BarredStores" (203 : Nat) (4652007308841189376 : UInt64)) ∈ lw_all := lw_g (lw_at lw_m26 36 rfl) rfl
theorem q6429 : (Jvm.Cond.constantDouble "WasteHouse$BarredStores" (205 : Nat) (4617315517961601024 : UInt64)) ∈ lw_all := lw_g (lw_at lw_m26 37 rfl) rfl
theorem q6431 : (Jvm.Cond.instanceMethod ({ cls := "WasteHouse$BarredStores", name := "mix", desc := "(II)I" } : Jvm.MethodName)) ∈ lw_all := lw_g (lw_at lw_m26 39 rfl) rfl
theorem q6432 : (Jvm.Cond.selects "WasteHouse$BarredStores" ({ cls := "WasteHouse$BarredStores", name := "mix", desc := "(II)I" } : Jvm.MethodName) ({ cls := "WasteHouse$BarredStores", name := "mix", desc := "(II)I" } : Jvm.MethodName)) ∈ lw_all := lw_g (lw_at lw_m26 40 rfl) rfl
theorem q6433 : (Jvm.Cond.code ({ cls := "WasteHouse$BarredStores", name := "mix", desc := "(II)I" } : Jvm.MethodName) prog_6_method_37_code (7 : Nat) (Option.some Jvm.ClassFile.FieldType.int)) ∈ lw_all := lw_g (lw_at lw_m26 41 rfl) rfl
theorem q6434 : (Jvm.Cond.methodLink "WasteHouse$BarredStores" (207 : Nat) ({ cls := "WasteHouse$BarredStores", name := "forget", desc := "(II)V" } : Jvm.MethodName)) ∈ lw_all := lw_g (lw_at lw_m26 42 rfl) rfl
theorem q6435 : (Jvm.Cond.privateMethod ({ cls := "WasteHouse$BarredStores", name := "forget", desc := "(II)V" } : Jvm.MethodName)) ∈ lw_tbl := lw_at lw_m26 43 rfl
theorem q6436 : (Jvm.Cond.instanceMethod ({ cls := "WasteHouse$BarredStores", name := "forget", desc := "(II)V" } : Jvm.MethodName)) ∈ lw_all := lw_g (lw_at lw_m26 44 rfl) rfl
theorem q6437 : (Jvm.Cond.code ({ cls := "WasteHouse$BarredStores", name := "forget", desc := "(II)V" } : Jvm.MethodName) prog_6_method_38_code (3 : Nat) (Option.none : Option Jvm.ClassFile.FieldType)) ∈ lw_all := lw_g (lw_at lw_m26 45 rfl) rfl
theorem q6439 : (Jvm.Cond.instanceMethod ({ cls := "WasteHouse$BarredStores", name := "key", desc := "(II)Z" } : Jvm.MethodName)) ∈ lw_all := lw_g (lw_at lw_m26 47 rfl) rfl
theorem q6440 : (Jvm.Cond.selects "WasteHouse$BarredStores" ({ cls := "WasteHouse$BarredStores", name := "key", desc := "(II)Z" } : Jvm.MethodName) ({ cls := "WasteHouse$BarredStores", name := "key", desc := "(II)Z" } : Jvm.MethodName)) ∈ lw_all := lw_g (lw_at lw_m26 48 rfl) rfl
theorem q6441 : (Jvm.Cond.code ({ cls := "WasteHouse$BarredStores", name := "key", desc := "(II)Z" } : Jvm.MethodName) prog_6_method_40_code (3 : Nat) (Option.some Jvm.ClassFile.FieldType.boolean)) ∈ lw_all := lw_g (lw_at lw_m26 49 rfl) rfl
theorem q6442 : (Jvm.Cond.methodLink "WasteHouse$BarredStores" (210 : Nat) ({ cls := "WasteHouse$BarredStores", name := "isPerson", desc := "(I)Z" } : Jvm.MethodName)) ∈ lw_all := lw_g (lw_at lw_m26 50 rfl) rfl
theorem q6443 : (Jvm.Cond.static ({ cls := "WasteHouse$BarredStores", name := "isPerson", desc := "(I)Z" } : Jvm.MethodName)) ∈ lw_all := lw_g (lw_at lw_m26 51 rfl) rfl
theorem q6444 : (Jvm.Cond.code ({ cls := "WasteHouse$BarredStores", name := "isPerson", desc := "(I)Z" } : Jvm.MethodName) prog_6_method_39_code (1 : Nat) (Option.some Jvm.ClassFile.FieldType.boolean)) ∈ lw_all := lw_g (lw_at lw_m26 52 rfl) rfl
theorem q6445 : (Jvm.Cond.methodLink "WasteHouse$BarredStores" (213 : Nat) ({ cls := "WasteHouse$BarredStores", name := "open", desc := "(II)Z" } : Jvm.MethodName)) ∈ lw_all := lw_g (lw_at lw_m26 53 rfl) rfl
theorem q6446 : (Jvm.Cond.instanceMethod ({ cls := "WasteHouse$BarredStores", name := "open", desc := "(II)Z" } : Jvm.MethodName)) ∈ lw_all := lw_g (lw_at lw_m26 54 rfl) rfl
theorem q6447 : (Jvm.Cond.selects "WasteHouse$BarredStores" ({ cls := "WasteHouse$BarredStores", name := "open", desc := "(II)Z" } : Jvm.MethodName) ({ cls := "WasteHouse$BarredStores", name := "open", desc := "(II)Z" } : Jvm.MethodName)) ∈ lw_all := lw_g (lw_at lw_m26 55 rfl) rfl
theorem q6448 : (Jvm.Cond.code ({ cls := "WasteHouse$BarredStores", name := "open", desc := "(II)Z" } : Jvm.MethodName) prog_6_method_41_code (3 : Nat) (Option.some Jvm.ClassFile.FieldType.boolean)) ∈ lw_all := lw_g (lw_at lw_m26 56 rfl) rfl
theorem q6451 : (Jvm.Cond.instanceMethod ({ cls := "WasteHouse$BarredStores", name := "first", desc := "(I)I" } : Jvm.MethodName)) ∈ lw_all := lw_g (lw_at lw_m26 59 rfl) rfl
theorem q6452 : (Jvm.Cond.selects "WasteHouse$BarredStores" ({ cls := "WasteHouse$BarredStores", name := "first", desc := "(I)I" } : Jvm.MethodName) ({ cls := "WasteHouse$BarredStores", name := "first", desc := "(I)I" } : Jvm.MethodName)) ∈ lw_all := lw_g (lw_at lw_m26 60 rfl) rfl
theorem q6453 : (Jvm.Cond.code ({ cls := "WasteHouse$BarredStores", name := "first", desc := "(I)I" } : Jvm.MethodName) prog_6_method_22_code (5 : Nat) (Option.some Jvm.ClassFile.FieldType.int)) ∈ lw_all := lw_g (lw_at lw_m26 61 rfl) rfl
theorem q6455 : (Jvm.Cond.instanceMethod ({ cls := "WasteHouse$BarredStores", name := "drill", desc := "(II)I" } : Jvm.MethodName)) ∈ lw_all := lw_g (lw_at lw_m26 63 rfl) rfl
theorem q6456 : (Jvm.Cond.selects "WasteHouse$BarredStores" ({ cls := "WasteHouse$BarredStores", name := "drill", desc := "(II)I" } : Jvm.MethodName) ({ cls := "WasteHouse$BarredStores", name := "drill", desc := "(II)I" } : Jvm.MethodName)) ∈ lw_all := lw_g (lw_at lw_m26 64 rfl) rfl
theorem q6457 : (Jvm.Cond.code ({ cls := "WasteHouse$BarredStores", name := "drill", desc := "(II)I" } : Jvm.MethodName) prog_6_method_42_code (9 : Nat) (Option.some Jvm.ClassFile.FieldType.int)) ∈ lw_all := lw_g (lw_at lw_m26 65 rfl) rfl
theorem q6459 : (Jvm.Cond.instanceMethod ({ cls := "WasteHouse$BarredStores", name := "inspect", desc := "(IJ)I" } : Jvm.MethodName)) ∈ lw_all := lw_g (lw_at lw_m26 67 rfl) rfl
theorem q6460 : (Jvm.Cond.selects "WasteHouse$BarredStores" ({ cls := "WasteHouse$BarredStores", name := "inspect", desc := "(IJ)I" } : Jvm.MethodName) ({ cls := "WasteHouse$BarredStores", name := "inspect", desc := "(IJ)I" } : Jvm.MethodName)) ∈ lw_all := lw_g (lw_at lw_m26 68 rfl) rfl
theorem q6461 : (Jvm.Cond.code ({ cls := "WasteHouse$BarredStores", name := "inspect", desc := "(IJ)I" } : Jvm.MethodName) prog_6_method_43_code (5 : Nat) (Option.some Jvm.ClassFile.FieldType.int)) ∈ lw_all := lw_g (lw_at lw_m26 69 rfl) rfl
theorem q9649 : (Jvm.Cond.castable "WasteHouse$BarredStores" "java/lang/Object") ∈ lw_tbl := lw_at lw_m39 137 rfl
theorem in_X21 : ∀ w ∈ wsX210, w ∈ lw_all := lw_in wsX210 [1374, 1376, 1378, 1380, 1382, 1384, 1386, 1388, 1390, 1392, 1394, 1396, 1398, 1400, 1402] (by decide +kernel) (by decide +kernel)
