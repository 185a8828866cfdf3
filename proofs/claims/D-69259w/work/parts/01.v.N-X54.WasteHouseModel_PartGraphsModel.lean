/-! WasteHouseModel$PartGraphsModel -/
set_option maxRecDepth 100000
def RX54 : String := "WasteHouseModel$PartGraphsModel"
def TX54 : u_T := fun k => match k with
  | 0 => ("WasteHouseModel$PartGraphsModel", "parts", "[I", true)
  | 1 => ("WasteHouseModel$PartGraphsModel", "kinds", "[I", true)
  | 2 => ("WasteHouseModel$PartGraphsModel", "grams", "[I", true)
  | 3 => ("WasteHouseModel$PartGraphsModel", "covers", "[Z", true)
  | 4 => ("WasteHouseModel$PartGraphsModel", "ways", "[Z", true)
  | 5 => ("WasteHouseModel$PartGraphsModel", "fastenings", "[I", true)
  | 6 => ("WasteHouseModel$PartGraphsModel", "ties", "[I", true)
  | 7 => ("WasteHouseModel$PartGraphsModel", "hazards", "[Z", true)
  | 8 => ("WasteHouseModel$PartGraphsModel", "families", "[I", true)
  | 9 => ("WasteHouseModel$PartGraphsModel", "damages", "[I", true)
  | 10 => ("WasteHouseModel$PartGraphsModel", "text", "[B", true)
  | 11 => ("WasteHouseModel$PartGraphsModel", "size", "I", false)
  | 12 => ("WasteHouseModel$PartGraphsModel", "fault", "I", false)
  | 13 => ("WasteHouseModel$PartGraphsModel", "numbers", "[I", true)
  | 14 => ("WasteHouseModel$PartGraphsModel", "at", "I", false)
  | 15 => ("WasteHouseModel$PartGraphsModel", "wanted", "I", false)
  | 16 => ("WasteHouseModel$PartGraphsModel", "written", "I", false)
  | _ => ("WasteHouseModel$PartGraphsModel", "found", "I", false)
def tyX54 : Nat → FieldType := fun k => match k with
  | 0 => .array .int
  | 1 => .array .int
  | 2 => .array .int
  | 3 => .array .boolean
  | 4 => .array .boolean
  | 5 => .array .int
  | 6 => .array .int
  | 7 => .array .boolean
  | 8 => .array .int
  | 9 => .array .int
  | 10 => .array .byte
  | 11 => .int
  | 12 => .int
  | 13 => .array .int
  | 14 => .int
  | 15 => .int
  | 16 => .int
  | _ => .int
abbrev wsX540 : List Cond := u_ws RX54 TX54 18
set_option maxRecDepth 100000 in
theorem nmX54 : ∀ a, a < 18 → ∀ b, b < 18 → a ≠ b → (TX54 a).2.1 ≠ (TX54 b).2.1 := by decide +kernel
set_option maxRecDepth 100000 in
theorem tyX54_ok : ∀ k, k < 18 → parseFieldDescriptor (TX54 k).2.2.1 = some (tyX54 k) := by decide +kernel
abbrev cX54_init : ByteArray := prog_61_method_1_code
def yX54_init : MethodName := ⟨RX54, "<init>", "()V"⟩
def dkwX54_init_4 : List UInt8 := [42, 6, 188, 10, 181, 0, 45, 42, 3, 182, 0, 48, 177]
abbrev dktX54_init_4 : List UInt8 := dkwX54_init_4 ++ []
def dkwX54_init_3 : List UInt8 := [16, 20, 188, 10, 181, 0, 35, 42, 16, 20, 188, 10, 181, 0, 38, 42, 17, 7, 208, 188, 8, 181, 0, 41]
abbrev dktX54_init_3 : List UInt8 := dkwX54_init_3 ++ dktX54_init_4
def dkwX54_init_2 : List UInt8 := [188, 10, 181, 0, 26, 42, 16, 120, 188, 10, 181, 0, 29, 42, 17, 0, 160, 188, 4, 181, 0, 32, 42]
abbrev dktX54_init_2 : List UInt8 := dkwX54_init_2 ++ dktX54_init_3
def dkwX54_init_1 : List UInt8 := [181, 0, 16, 42, 17, 0, 200, 188, 4, 181, 0, 19, 42, 17, 4, 176, 188, 4, 181, 0, 23, 42, 5]
abbrev dktX54_init_1 : List UInt8 := dkwX54_init_1 ++ dktX54_init_2
def dkwX54_init_0 : List UInt8 := [42, 183, 0, 1, 42, 5, 188, 10, 181, 0, 7, 42, 16, 20, 188, 10, 181, 0, 13, 42, 16, 20, 188, 10]
abbrev dktX54_init_0 : List UInt8 := dkwX54_init_0 ++ dktX54_init_1
theorem dksX54_init_0 : cX54_init.data.toList.drop 0 = dktX54_init_0 := by decide +kernel
theorem dksX54_init_1 : cX54_init.data.toList.drop 24 = dktX54_init_1 := dk_seg dksX54_init_0 24 rfl rfl
theorem dksX54_init_2 : cX54_init.data.toList.drop 47 = dktX54_init_2 := dk_seg dksX54_init_1 23 rfl rfl
theorem dksX54_init_3 : cX54_init.data.toList.drop 70 = dktX54_init_3 := dk_seg dksX54_init_2 23 rfl rfl
theorem dksX54_init_4 : cX54_init.data.toList.drop 94 = dktX54_init_4 := dk_seg dksX54_init_3 24 rfl rfl
theorem dX54_init_0 : decode cX54_init 0 = .ok (.aload_n 0, 1) := dk_42 (dk_at dksX54_init_0 0 rfl rfl)
theorem dX54_init_1 : decode cX54_init 1 = .ok (.invokespecial 1, 3) := dk_183 0 1 (dk_at dksX54_init_0 1 rfl rfl)
theorem dX54_init_4 : decode cX54_init 4 = .ok (.aload_n 0, 1) := dk_42 (dk_at dksX54_init_0 4 rfl rfl)
theorem dX54_init_5 : decode cX54_init 5 = .ok (.iconst 2, 1) := dk_5 (dk_at dksX54_init_0 5 rfl rfl)
theorem dX54_init_6 : decode cX54_init 6 = .ok (.newarray .int, 2) := dk_188_10 (dk_at dksX54_init_0 6 rfl rfl)
theorem dX54_init_8 : decode cX54_init 8 = .ok (.putfield 7, 3) := dk_181 0 7 (dk_at dksX54_init_0 8 rfl rfl)
theorem dX54_init_11 : decode cX54_init 11 = .ok (.aload_n 0, 1) := dk_42 (dk_at dksX54_init_0 11 rfl rfl)
theorem dX54_init_12 : decode cX54_init 12 = .ok (.bipush 20, 2) := dk_16 20 (dk_at dksX54_init_0 12 rfl rfl)
theorem dX54_init_14 : decode cX54_init 14 = .ok (.newarray .int, 2) := dk_188_10 (dk_at dksX54_init_0 14 rfl rfl)
theorem dX54_init_16 : decode cX54_init 16 = .ok (.putfield 13, 3) := dk_181 0 13 (dk_at dksX54_init_0 16 rfl rfl)
theorem dX54_init_19 : decode cX54_init 19 = .ok (.aload_n 0, 1) := dk_42 (dk_at dksX54_init_0 19 rfl rfl)
theorem dX54_init_20 : decode cX54_init 20 = .ok (.bipush 20, 2) := dk_16 20 (dk_at dksX54_init_0 20 rfl rfl)
theorem dX54_init_22 : decode cX54_init 22 = .ok (.newarray .int, 2) := dk_188_10 (dk_at dksX54_init_0 22 rfl rfl)
theorem dX54_init_24 : decode cX54_init 24 = .ok (.putfield 16, 3) := dk_181 0 16 (dk_at dksX54_init_1 0 rfl rfl)
theorem dX54_init_27 : decode cX54_init 27 = .ok (.aload_n 0, 1) := dk_42 (dk_at dksX54_init_1 3 rfl rfl)
theorem dX54_init_28 : decode cX54_init 28 = .ok (.sipush 200, 3) := dk_17 0 200 (dk_at dksX54_init_1 4 rfl rfl)
theorem dX54_init_31 : decode cX54_init 31 = .ok (.newarray .boolean, 2) := dk_188_4 (dk_at dksX54_init_1 7 rfl rfl)
theorem dX54_init_33 : decode cX54_init 33 = .ok (.putfield 19, 3) := dk_181 0 19 (dk_at dksX54_init_1 9 rfl rfl)
theorem dX54_init_36 : decode cX54_init 36 = .ok (.aload_n 0, 1) := dk_42 (dk_at dksX54_init_1 12 rfl rfl)
theorem dX54_init_37 : decode cX54_init 37 = .ok (.sipush 1200, 3) := dk_17 4 176 (dk_at dksX54_init_1 13 rfl rfl)
theorem dX54_init_40 : decode cX54_init 40 = .ok (.newarray .boolean, 2) := dk_188_4 (dk_at dksX54_init_1 16 rfl rfl)
theorem dX54_init_42 : decode cX54_init 42 = .ok (.putfield 23, 3) := dk_181 0 23 (dk_at dksX54_init_1 18 rfl rfl)
theorem dX54_init_45 : decode cX54_init 45 = .ok (.aload_n 0, 1) := dk_42 (dk_at dksX54_init_1 21 rfl rfl)
theorem dX54_init_46 : decode cX54_init 46 = .ok (.iconst 2, 1) := dk_5 (dk_at dksX54_init_1 22 rfl rfl)
theorem dX54_init_47 : decode cX54_init 47 = .ok (.newarray .int, 2) := dk_188_10 (dk_at dksX54_init_2 0 rfl rfl)
theorem dX54_init_49 : decode cX54_init 49 = .ok (.putfield 26, 3) := dk_181 0 26 (dk_at dksX54_init_2 2 rfl rfl)
theorem dX54_init_52 : decode cX54_init 52 = .ok (.aload_n 0, 1) := dk_42 (dk_at dksX54_init_2 5 rfl rfl)
theorem dX54_init_53 : decode cX54_init 53 = .ok (.bipush 120, 2) := dk_16 120 (dk_at dksX54_init_2 6 rfl rfl)
theorem dX54_init_55 : decode cX54_init 55 = .ok (.newarray .int, 2) := dk_188_10 (dk_at dksX54_init_2 8 rfl rfl)
theorem dX54_init_57 : decode cX54_init 57 = .ok (.putfield 29, 3) := dk_181 0 29 (dk_at dksX54_init_2 10 rfl rfl)
theorem dX54_init_60 : decode cX54_init 60 = .ok (.aload_n 0, 1) := dk_42 (dk_at dksX54_init_2 13 rfl rfl)
theorem dX54_init_61 : decode cX54_init 61 = .ok (.sipush 160, 3) := dk_17 0 160 (dk_at dksX54_init_2 14 rfl rfl)
theorem dX54_init_64 : decode cX54_init 64 = .ok (.newarray .boolean, 2) := dk_188_4 (dk_at dksX54_init_2 17 rfl rfl)
theorem dX54_init_66 : decode cX54_init 66 = .ok (.putfield 32, 3) := dk_181 0 32 (dk_at dksX54_init_2 19 rfl rfl)
theorem dX54_init_69 : decode cX54_init 69 = .ok (.aload_n 0, 1) := dk_42 (dk_at dksX54_init_2 22 rfl rfl)
theorem dX54_init_70 : decode cX54_init 70 = .ok (.bipush 20, 2) := dk_16 20 (dk_at dksX54_init_3 0 rfl rfl)
theorem dX54_init_72 : decode cX54_init 72 = .ok (.newarray .int, 2) := dk_188_10 (dk_at dksX54_init_3 2 rfl rfl)
theorem dX54_init_74 : decode cX54_init 74 = .ok (.putfield 35, 3) := dk_181 0 35 (dk_at dksX54_init_3 4 rfl rfl)
theorem dX54_init_77 : decode cX54_init 77 = .ok (.aload_n 0, 1) := dk_42 (dk_at dksX54_init_3 7 rfl rfl)
theorem dX54_init_78 : decode cX54_init 78 = .ok (.bipush 20, 2) := dk_16 20 (dk_at dksX54_init_3 8 rfl rfl)
theorem dX54_init_80 : decode cX54_init 80 = .ok (.newarray .int, 2) := dk_188_10 (dk_at dksX54_init_3 10 rfl rfl)
theorem dX54_init_82 : decode cX54_init 82 = .ok (.putfield 38, 3) := dk_181 0 38 (dk_at dksX54_init_3 12 rfl rfl)
theorem dX54_init_85 : decode cX54_init 85 = .ok (.aload_n 0, 1) := dk_42 (dk_at dksX54_init_3 15 rfl rfl)
theorem dX54_init_86 : decode cX54_init 86 = .ok (.sipush 2000, 3) := dk_17 7 208 (dk_at dksX54_init_3 16 rfl rfl)
theorem dX54_init_89 : decode cX54_init 89 = .ok (.newarray .byte, 2) := dk_188_8 (dk_at dksX54_init_3 19 rfl rfl)
theorem dX54_init_91 : decode cX54_init 91 = .ok (.putfield 41, 3) := dk_181 0 41 (dk_at dksX54_init_3 21 rfl rfl)
theorem dX54_init_94 : decode cX54_init 94 = .ok (.aload_n 0, 1) := dk_42 (dk_at dksX54_init_4 0 rfl rfl)
theorem dX54_init_95 : decode cX54_init 95 = .ok (.iconst 3, 1) := dk_6 (dk_at dksX54_init_4 1 rfl rfl)
theorem dX54_init_96 : decode cX54_init 96 = .ok (.newarray .int, 2) := dk_188_10 (dk_at dksX54_init_4 2 rfl rfl)
theorem dX54_init_98 : decode cX54_init 98 = .ok (.putfield 45, 3) := dk_181 0 45 (dk_at dksX54_init_4 4 rfl rfl)
theorem dX54_init_101 : decode cX54_init 101 = .ok (.aload_n 0, 1) := dk_42 (dk_at dksX54_init_4 7 rfl rfl)
theorem dX54_init_102 : decode cX54_init 102 = .ok (.iconst 0, 1) := dk_3 (dk_at dksX54_init_4 8 rfl rfl)
theorem dX54_init_103 : decode cX54_init 103 = .ok (.invokevirtual 48, 3) := dk_182 0 48 (dk_at dksX54_init_4 9 rfl rfl)
theorem dX54_init_106 : decode cX54_init 106 = .ok (.return_, 1) := dk_177 (dk_at dksX54_init_4 12 rfl rfl)
abbrev cX54_clear : ByteArray := prog_61_method_3_code
def yX54_clear : MethodName := ⟨RX54, "clear", "(I)V"⟩
def dkwX54_clear_5 : List UInt8 := [16, 10, 27, 104, 28, 96, 3, 79, 132, 2, 1, 167, 255, 223, 177]
abbrev dktX54_clear_5 : List UInt8 := dkwX54_clear_5 ++ []
def dkwX54_clear_4 : List UInt8 := [3, 61, 28, 16, 10, 162, 0, 33, 42, 180, 0, 35, 16, 10, 27, 104, 28, 96, 2, 79, 42, 180, 0, 38]
abbrev dktX54_clear_4 : List UInt8 := dkwX54_clear_4 ++ dktX54_clear_5
def dkwX54_clear_3 : List UInt8 := [28, 16, 80, 162, 0, 21, 42, 180, 0, 32, 16, 80, 27, 104, 28, 96, 3, 84, 132, 2, 1, 167, 255, 235]
abbrev dktX54_clear_3 : List UInt8 := dkwX54_clear_3 ++ dktX54_clear_4
def dkwX54_clear_2 : List UInt8 := [162, 0, 22, 42, 180, 0, 23, 17, 2, 88, 27, 104, 28, 96, 3, 84, 132, 2, 1, 167, 255, 233, 3, 61]
abbrev dktX54_clear_2 : List UInt8 := dkwX54_clear_2 ++ dktX54_clear_3
def dkwX54_clear_1 : List UInt8 := [180, 0, 19, 16, 100, 27, 104, 28, 96, 3, 84, 132, 2, 1, 167, 255, 235, 3, 61, 28, 17, 2, 88]
abbrev dktX54_clear_1 : List UInt8 := dkwX54_clear_1 ++ dktX54_clear_2
def dkwX54_clear_0 : List UInt8 := [42, 180, 0, 7, 27, 3, 79, 42, 180, 0, 26, 27, 3, 79, 3, 61, 28, 16, 100, 162, 0, 21, 42]
abbrev dktX54_clear_0 : List UInt8 := dkwX54_clear_0 ++ dktX54_clear_1
theorem dksX54_clear_0 : cX54_clear.data.toList.drop 0 = dktX54_clear_0 := by decide +kernel
theorem dksX54_clear_1 : cX54_clear.data.toList.drop 23 = dktX54_clear_1 := dk_seg dksX54_clear_0 23 rfl rfl
theorem dksX54_clear_2 : cX54_clear.data.toList.drop 46 = dktX54_clear_2 := dk_seg dksX54_clear_1 23 rfl rfl
theorem dksX54_clear_3 : cX54_clear.data.toList.drop 70 = dktX54_clear_3 := dk_seg dksX54_clear_2 24 rfl rfl
theorem dksX54_clear_4 : cX54_clear.data.toList.drop 94 = dktX54_clear_4 := dk_seg dksX54_clear_3 24 rfl rfl
theorem dksX54_clear_5 : cX54_clear.data.toList.drop 118 = dktX54_clear_5 := dk_seg dksX54_clear_4 24 rfl rfl
theorem dX54_clear_0 : decode cX54_clear 0 = .ok (.aload_n 0, 1) := dk_42 (dk_at dksX54_clear_0 0 rfl rfl)
theorem dX54_clear_1 : decode cX54_clear 1 = .ok (.getfield 7, 3) := dk_180 0 7 (dk_at dksX54_clear_0 1 rfl rfl)
theorem dX54_clear_4 : decode cX54_clear 4 = .ok (.iload_n 1, 1) := dk_27 (dk_at dksX54_clear_0 4 rfl rfl)
theorem dX54_clear_5 : decode cX54_clear 5 = .ok (.iconst 0, 1) := dk_3 (dk_at dksX54_clear_0 5 rfl rfl)
theorem dX54_clear_6 : decode cX54_clear 6 = .ok (.iastore, 1) := dk_79 (dk_at dksX54_clear_0 6 rfl rfl)
theorem dX54_clear_7 : decode cX54_clear 7 = .ok (.aload_n 0, 1) := dk_42 (dk_at dksX54_clear_0 7 rfl rfl)
theorem dX54_clear_8 : decode cX54_clear 8 = .ok (.getfield 26, 3) := dk_180 0 26 (dk_at dksX54_clear_0 8 rfl rfl)
theorem dX54_clear_11 : decode cX54_clear 11 = .ok (.iload_n 1, 1) := dk_27 (dk_at dksX54_clear_0 11 rfl rfl)
theorem dX54_clear_12 : decode cX54_clear 12 = .ok (.iconst 0, 1) := dk_3 (dk_at dksX54_clear_0 12 rfl rfl)
theorem dX54_clear_13 : decode cX54_clear 13 = .ok (.iastore, 1) := dk_79 (dk_at dksX54_clear_0 13 rfl rfl)
theorem dX54_clear_14 : decode cX54_clear 14 = .ok (.iconst 0, 1) := dk_3 (dk_at dksX54_clear_0 14 rfl rfl)
theorem dX54_clear_15 : decode cX54_clear 15 = .ok (.istore_n 2, 1) := dk_61 (dk_at dksX54_clear_0 15 rfl rfl)
theorem dX54_clear_16 : decode cX54_clear 16 = .ok (.iload_n 2, 1) := dk_28 (dk_at dksX54_clear_0 16 rfl rfl)
theorem dX54_clear_17 : decode cX54_clear 17 = .ok (.bipush 100, 2) := dk_16 100 (dk_at dksX54_clear_0 17 rfl rfl)
theorem dX54_clear_19 : decode cX54_clear 19 = .ok (.if_icmp .ge 21, 3) := dk_162 0 21 (dk_at dksX54_clear_0 19 rfl rfl)
theorem dX54_clear_22 : decode cX54_clear 22 = .ok (.aload_n 0, 1) := dk_42 (dk_at dksX54_clear_0 22 rfl rfl)
theorem dX54_clear_23 : decode cX54_clear 23 = .ok (.getfield 19, 3) := dk_180 0 19 (dk_at dksX54_clear_1 0 rfl rfl)
theorem dX54_clear_26 : decode cX54_clear 26 = .ok (.bipush 100, 2) := dk_16 100 (dk_at dksX54_clear_1 3 rfl rfl)
theorem dX54_clear_28 : decode cX54_clear 28 = .ok (.iload_n 1, 1) := dk_27 (dk_at dksX54_clear_1 5 rfl rfl)
theorem dX54_clear_29 : decode cX54_clear 29 = .ok (.imul, 1) := dk_104 (dk_at dksX54_clear_1 6 rfl rfl)
theorem dX54_clear_30 : decode cX54_clear 30 = .ok (.iload_n 2, 1) := dk_28 (dk_at dksX54_clear_1 7 rfl rfl)
theorem dX54_clear_31 : decode cX54_clear 31 = .ok (.iadd, 1) := dk_96 (dk_at dksX54_clear_1 8 rfl rfl)
theorem dX54_clear_32 : decode cX54_clear 32 = .ok (.iconst 0, 1) := dk_3 (dk_at dksX54_clear_1 9 rfl rfl)
theorem dX54_clear_33 : decode cX54_clear 33 = .ok (.bastore, 1) := dk_84 (dk_at dksX54_clear_1 10 rfl rfl)
theorem dX54_clear_34 : decode cX54_clear 34 = .ok (.iinc 2 1, 3) := dk_132 2 1 (dk_at dksX54_clear_1 11 rfl rfl)
theorem dX54_clear_37 : decode cX54_clear 37 = .ok (.goto (-21), 3) := dk_167 255 235 (dk_at dksX54_clear_1 14 rfl rfl)
theorem dX54_clear_40 : decode cX54_clear 40 = .ok (.iconst 0, 1) := dk_3 (dk_at dksX54_clear_1 17 rfl rfl)
theorem dX54_clear_41 : decode cX54_clear 41 = .ok (.istore_n 2, 1) := dk_61 (dk_at dksX54_clear_1 18 rfl rfl)
theorem dX54_clear_42 : decode cX54_clear 42 = .ok (.iload_n 2, 1) := dk_28 (dk_at dksX54_clear_1 19 rfl rfl)
theorem dX54_clear_43 : decode cX54_clear 43 = .ok (.sipush 600, 3) := dk_17 2 88 (dk_at dksX54_clear_1 20 rfl rfl)
theorem dX54_clear_46 : decode cX54_clear 46 = .ok (.if_icmp .ge 22, 3) := dk_162 0 22 (dk_at dksX54_clear_2 0 rfl rfl)
theorem dX54_clear_49 : decode cX54_clear 49 = .ok (.aload_n 0, 1) := dk_42 (dk_at dksX54_clear_2 3 rfl rfl)
theorem dX54_clear_50 : decode cX54_clear 50 = .ok (.getfield 23, 3) := dk_180 0 23 (dk_at dksX54_clear_2 4 rfl rfl)
theorem dX54_clear_53 : decode cX54_clear 53 = .ok (.sipush 600, 3) := dk_17 2 88 (dk_at dksX54_clear_2 7 rfl rfl)
theorem dX54_clear_56 : decode cX54_clear 56 = .ok (.iload_n 1, 1) := dk_27 (dk_at dksX54_clear_2 10 rfl rfl)
theorem dX54_clear_57 : decode cX54_clear 57 = .ok (.imul, 1) := dk_104 (dk_at dksX54_clear_2 11 rfl rfl)
theorem dX54_clear_58 : decode cX54_clear 58 = .ok (.iload_n 2, 1) := dk_28 (dk_at dksX54_clear_2 12 rfl rfl)
theorem dX54_clear_59 : decode cX54_clear 59 = .ok (.iadd, 1) := dk_96 (dk_at dksX54_clear_2 13 rfl rfl)
theorem dX54_clear_60 : decode cX54_clear 60 = .ok (.iconst 0, 1) := dk_3 (dk_at dksX54_clear_2 14 rfl rfl)
theorem dX54_clear_61 : decode cX54_clear 61 = .ok (.bastore, 1) := dk_84 (dk_at dksX54_clear_2 15 rfl rfl)
theorem dX54_clear_62 : decode cX54_clear 62 = .ok (.iinc 2 1, 3) := dk_132 2 1 (dk_at dksX54_clear_2 16 rfl rfl)
theorem dX54_clear_65 : decode cX54_clear 65 = .ok (.goto (-23), 3) := dk_167 255 233 (dk_at dksX54_clear_2 19 rfl rfl)
theorem dX54_clear_68 : decode cX54_clear 68 = .ok (.iconst 0, 1) := dk_3 (dk_at dksX54_clear_2 22 rfl rfl)
theorem dX54_clear_69 : decode cX54_clear 69 = .ok (.istore_n 2, 1) := dk_61 (dk_at dksX54_clear_2 23 rfl rfl)
theorem dX54_clear_70 : decode cX54_clear 70 = .ok (.iload_n 2, 1) := dk_28 (dk_at dksX54_clear_3 0 rfl rfl)
theorem dX54_clear_71 : decode cX54_clear 71 = .ok (.bipush 80, 2) := dk_16 80 (dk_at dksX54_clear_3 1 rfl rfl)
theorem dX54_clear_73 : decode cX54_clear 73 = .ok (.if_icmp .ge 21, 3) := dk_162 0 21 (dk_at dksX54_clear_3 3 rfl rfl)
theorem dX54_clear_76 : decode cX54_clear 76 = .ok (.aload_n 0, 1) := dk_42 (dk_at dksX54_clear_3 6 rfl rfl)
theorem dX54_clear_77 : decode cX54_clear 77 = .ok (.getfield 32, 3) := dk_180 0 32 (dk_at dksX54_clear_3 7 rfl rfl)
theorem dX54_clear_80 : decode cX54_clear 80 = .ok (.bipush 80, 2) := dk_16 80 (dk_at dksX54_clear_3 10 rfl rfl)
theorem dX54_clear_82 : decode cX54_clear 82 = .ok (.iload_n 1, 1) := dk_27 (dk_at dksX54_clear_3 12 rfl rfl)
theorem dX54_clear_83 : decode cX54_clear 83 = .ok (.imul, 1) := dk_104 (dk_at dksX54_clear_3 13 rfl rfl)
theorem dX54_clear_84 : decode cX54_clear 84 = .ok (.iload_n 2, 1) := dk_28 (dk_at dksX54_clear_3 14 rfl rfl)
theorem dX54_clear_85 : decode cX54_clear 85 = .ok (.iadd, 1) := dk_96 (dk_at dksX54_clear_3 15 rfl rfl)
theorem dX54_clear_86 : decode cX54_clear 86 = .ok (.iconst 0, 1) := dk_3 (dk_at dksX54_clear_3 16 rfl rfl)
theorem dX54_clear_87 : decode cX54_clear 87 = .ok (.bastore, 1) := dk_84 (dk_at dksX54_clear_3 17 rfl rfl)
theorem dX54_clear_88 : decode cX54_clear 88 = .ok (.iinc 2 1, 3) := dk_132 2 1 (dk_at dksX54_clear_3 18 rfl rfl)
theorem dX54_clear_91 : decode cX54_clear 91 = .ok (.goto (-21), 3) := dk_167 255 235 (dk_at dksX54_clear_3 21 rfl rfl)
theorem dX54_clear_94 : decode cX54_clear 94 = .ok (.iconst 0, 1) := dk_3 (dk_at dksX54_clear_4 0 rfl rfl)
theorem dX54_clear_95 : decode cX54_clear 95 = .ok (.istore_n 2, 1) := dk_61 (dk_at dksX54_clear_4 1 rfl rfl)
theorem dX54_clear_96 : decode cX54_clear 96 = .ok (.iload_n 2, 1) := dk_28 (dk_at dksX54_clear_4 2 rfl rfl)
theorem dX54_clear_97 : decode cX54_clear 97 = .ok (.bipush 10, 2) := dk_16 10 (dk_at dksX54_clear_4 3 rfl rfl)
theorem dX54_clear_99 : decode cX54_clear 99 = .ok (.if_icmp .ge 33, 3) := dk_162 0 33 (dk_at dksX54_clear_4 5 rfl rfl)
theorem dX54_clear_102 : decode cX54_clear 102 = .ok (.aload_n 0, 1) := dk_42 (dk_at dksX54_clear_4 8 rfl rfl)
theorem dX54_clear_103 : decode cX54_clear 103 = .ok (.getfield 35, 3) := dk_180 0 35 (dk_at dksX54_clear_4 9 rfl rfl)
theorem dX54_clear_106 : decode cX54_clear 106 = .ok (.bipush 10, 2) := dk_16 10 (dk_at dksX54_clear_4 12 rfl rfl)
theorem dX54_clear_108 : decode cX54_clear 108 = .ok (.iload_n 1, 1) := dk_27 (dk_at dksX54_clear_4 14 rfl rfl)
theorem dX54_clear_109 : decode cX54_clear 109 = .ok (.imul, 1) := dk_104 (dk_at dksX54_clear_4 15 rfl rfl)
theorem dX54_clear_110 : decode cX54_clear 110 = .ok (.iload_n 2, 1) := dk_28 (dk_at dksX54_clear_4 16 rfl rfl)
theorem dX54_clear_111 : decode cX54_clear 111 = .ok (.iadd, 1) := dk_96 (dk_at dksX54_clear_4 17 rfl rfl)
theorem dX54_clear_112 : decode cX54_clear 112 = .ok (.iconst (-1), 1) := dk_2 (dk_at dksX54_clear_4 18 rfl rfl)
theorem dX54_clear_113 : decode cX54_clear 113 = .ok (.iastore, 1) := dk_79 (dk_at dksX54_clear_4 19 rfl rfl)
theorem dX54_clear_114 : decode cX54_clear 114 = .ok (.aload_n 0, 1) := dk_42 (dk_at dksX54_clear_4 20 rfl rfl)
theorem dX54_clear_115 : decode cX54_clear 115 = .ok (.getfield 38, 3) := dk_180 0 38 (dk_at dksX54_clear_4 21 rfl rfl)
theorem dX54_clear_118 : decode cX54_clear 118 = .ok (.bipush 10, 2) := dk_16 10 (dk_at dksX54_clear_5 0 rfl rfl)
theorem dX54_clear_120 : decode cX54_clear 120 = .ok (.iload_n 1, 1) := dk_27 (dk_at dksX54_clear_5 2 rfl rfl)
theorem dX54_clear_121 : decode cX54_clear 121 = .ok (.imul, 1) := dk_104 (dk_at dksX54_clear_5 3 rfl rfl)
theorem dX54_clear_122 : decode cX54_clear 122 = .ok (.iload_n 2, 1) := dk_28 (dk_at dksX54_clear_5 4 rfl rfl)
theorem dX54_clear_123 : decode cX54_clear 123 = .ok (.iadd, 1) := dk_96 (dk_at dksX54_clear_5 5 rfl rfl)
theorem dX54_clear_124 : decode cX54_clear 124 = .ok (.iconst 0, 1) := dk_3 (dk_at dksX54_clear_5 6 rfl rfl)
theorem dX54_clear_125 : decode cX54_clear 125 = .ok (.iastore, 1) := dk_79 (dk_at dksX54_clear_5 7 rfl rfl)
theorem dX54_clear_126 : decode cX54_clear 126 = .ok (.iinc 2 1, 3) := dk_132 2 1 (dk_at dksX54_clear_5 8 rfl rfl)
theorem dX54_clear_129 : decode cX54_clear 129 = .ok (.goto (-33), 3) := dk_167 255 223 (dk_at dksX54_clear_5 11 rfl rfl)
theorem dX54_clear_132 : decode cX54_clear 132 = .ok (.return_, 1) := dk_177 (dk_at dksX54_clear_5 14 rfl rfl)
abbrev cX54_ring : ByteArray := prog_61_method_35_code
def yX54_ring : MethodName := ⟨RX54, "ring", "(I)I"⟩
def dkwX54_ring_2 : List UInt8 := [132, 4, 1, 132, 5, 1, 167, 255, 221, 2, 172]
abbrev dktX54_ring_2 : List UInt8 := dkwX54_ring_2 ++ []
def dkwX54_ring_1 : List UInt8 := [46, 162, 0, 30, 32, 21, 5, 184, 0, 138, 154, 0, 15, 21, 4, 27, 160, 0, 6, 21, 5, 172]
abbrev dktX54_ring_1 : List UInt8 := dkwX54_ring_1 ++ dktX54_ring_2
def dkwX54_ring_0 : List UInt8 := [42, 3, 181, 0, 52, 42, 2, 182, 0, 149, 65, 3, 54, 4, 3, 54, 5, 21, 5, 42, 180, 0, 7, 3]
abbrev dktX54_ring_0 : List UInt8 := dkwX54_ring_0 ++ dktX54_ring_1
theorem dksX54_ring_0 : cX54_ring.data.toList.drop 0 = dktX54_ring_0 := by decide +kernel
theorem dksX54_ring_1 : cX54_ring.data.toList.drop 24 = dktX54_ring_1 := dk_seg dksX54_ring_0 24 rfl rfl
theorem dksX54_ring_2 : cX54_ring.data.toList.drop 46 = dktX54_ring_2 := dk_seg dksX54_ring_1 22 rfl rfl
theorem dX54_ring_0 : decode cX54_ring 0 = .ok (.aload_n 0, 1) := dk_42 (dk_at dksX54_ring_0 0 rfl rfl)
theorem dX54_ring_1 : decode cX54_ring 1 = .ok (.iconst 0, 1) := dk_3 (dk_at dksX54_ring_0 1 rfl rfl)
theorem dX54_ring_2 : decode cX54_ring 2 = .ok (.putfield 52, 3) := dk_181 0 52 (dk_at dksX54_ring_0 2 rfl rfl)
theorem dX54_ring_5 : decode cX54_ring 5 = .ok (.aload_n 0, 1) := dk_42 (dk_at dksX54_ring_0 5 rfl rfl)
theorem dX54_ring_6 : decode cX54_ring 6 = .ok (.iconst (-1), 1) := dk_2 (dk_at dksX54_ring_0 6 rfl rfl)
theorem dX54_ring_7 : decode cX54_ring 7 = .ok (.invokevirtual 149, 3) := dk_182 0 149 (dk_at dksX54_ring_0 7 rfl rfl)
theorem dX54_ring_10 : decode cX54_ring 10 = .ok (.lstore_n 2, 1) := dk_65 (dk_at dksX54_ring_0 10 rfl rfl)
theorem dX54_ring_11 : decode cX54_ring 11 = .ok (.iconst 0, 1) := dk_3 (dk_at dksX54_ring_0 11 rfl rfl)
theorem dX54_ring_12 : decode cX54_ring 12 = .ok (.istore 4, 2) := dk_54 4 (dk_at dksX54_ring_0 12 rfl rfl)
theorem dX54_ring_14 : decode cX54_ring 14 = .ok (.iconst 0, 1) := dk_3 (dk_at dksX54_ring_0 14 rfl rfl)
theorem dX54_ring_15 : decode cX54_ring 15 = .ok (.istore 5, 2) := dk_54 5 (dk_at dksX54_ring_0 15 rfl rfl)
theorem dX54_ring_17 : decode cX54_ring 17 = .ok (.iload 5, 2) := dk_21 5 (dk_at dksX54_ring_0 17 rfl rfl)
theorem dX54_ring_19 : decode cX54_ring 19 = .ok (.aload_n 0, 1) := dk_42 (dk_at dksX54_ring_0 19 rfl rfl)
theorem dX54_ring_20 : decode cX54_ring 20 = .ok (.getfield 7, 3) := dk_180 0 7 (dk_at dksX54_ring_0 20 rfl rfl)
theorem dX54_ring_23 : decode cX54_ring 23 = .ok (.iconst 0, 1) := dk_3 (dk_at dksX54_ring_0 23 rfl rfl)
theorem dX54_ring_24 : decode cX54_ring 24 = .ok (.iaload, 1) := dk_46 (dk_at dksX54_ring_1 0 rfl rfl)
theorem dX54_ring_25 : decode cX54_ring 25 = .ok (.if_icmp .ge 30, 3) := dk_162 0 30 (dk_at dksX54_ring_1 1 rfl rfl)
theorem dX54_ring_28 : decode cX54_ring 28 = .ok (.lload_n 2, 1) := dk_32 (dk_at dksX54_ring_1 4 rfl rfl)
theorem dX54_ring_29 : decode cX54_ring 29 = .ok (.iload 5, 2) := dk_21 5 (dk_at dksX54_ring_1 5 rfl rfl)
theorem dX54_ring_31 : decode cX54_ring 31 = .ok (.invokestatic 138, 3) := dk_184 0 138 (dk_at dksX54_ring_1 7 rfl rfl)
theorem dX54_ring_34 : decode cX54_ring 34 = .ok (.ifCond .ne 15, 3) := dk_154 0 15 (dk_at dksX54_ring_1 10 rfl rfl)
theorem dX54_ring_37 : decode cX54_ring 37 = .ok (.iload 4, 2) := dk_21 4 (dk_at dksX54_ring_1 13 rfl rfl)
theorem dX54_ring_39 : decode cX54_ring 39 = .ok (.iload_n 1, 1) := dk_27 (dk_at dksX54_ring_1 15 rfl rfl)
theorem dX54_ring_40 : decode cX54_ring 40 = .ok (.if_icmp .ne 6, 3) := dk_160 0 6 (dk_at dksX54_ring_1 16 rfl rfl)
theorem dX54_ring_43 : decode cX54_ring 43 = .ok (.iload 5, 2) := dk_21 5 (dk_at dksX54_ring_1 19 rfl rfl)
theorem dX54_ring_45 : decode cX54_ring 45 = .ok (.ireturn, 1) := dk_172 (dk_at dksX54_ring_1 21 rfl rfl)
theorem dX54_ring_46 : decode cX54_ring 46 = .ok (.iinc 4 1, 3) := dk_132 4 1 (dk_at dksX54_ring_2 0 rfl rfl)
theorem dX54_ring_49 : decode cX54_ring 49 = .ok (.iinc 5 1, 3) := dk_132 5 1 (dk_at dksX54_ring_2 3 rfl rfl)
theorem dX54_ring_52 : decode cX54_ring 52 = .ok (.goto (-35), 3) := dk_167 255 221 (dk_at dksX54_ring_2 6 rfl rfl)
theorem dX54_ring_55 : decode cX54_ring 55 = .ok (.iconst (-1), 1) := dk_2 (dk_at dksX54_ring_2 9 rfl rfl)
theorem dX54_ring_56 : decode cX54_ring 56 = .ok (.ireturn, 1) := dk_172 (dk_at dksX54_ring_2 10 rfl rfl)
abbrev cX54_allOff : ByteArray := prog_61_method_33_code
def yX54_allOff : MethodName := ⟨RX54, "allOff", "(I)J"⟩
def dkwX54_allOff_2 : List UInt8 := [167, 0, 4, 9, 129, 65, 132, 5, 1, 167, 255, 215, 132, 4, 1, 167, 255, 199, 32, 173]
abbrev dktX54_allOff_2 : List UInt8 := dkwX54_allOff_2 ++ []
def dkwX54_allOff_1 : List UInt8 := [162, 0, 36, 32, 21, 5, 27, 159, 0, 20, 42, 21, 5, 32, 182, 0, 146, 153, 0, 10, 10, 21, 5, 121]
abbrev dktX54_allOff_1 : List UInt8 := dkwX54_allOff_1 ++ dktX54_allOff_2
def dkwX54_allOff_0 : List UInt8 := [9, 65, 3, 54, 4, 21, 4, 16, 10, 162, 0, 56, 3, 54, 5, 21, 5, 42, 180, 0, 7, 3, 46]
abbrev dktX54_allOff_0 : List UInt8 := dkwX54_allOff_0 ++ dktX54_allOff_1
theorem dksX54_allOff_0 : cX54_allOff.data.toList.drop 0 = dktX54_allOff_0 := by decide +kernel
theorem dksX54_allOff_1 : cX54_allOff.data.toList.drop 23 = dktX54_allOff_1 := dk_seg dksX54_allOff_0 23 rfl rfl
theorem dksX54_allOff_2 : cX54_allOff.data.toList.drop 47 = dktX54_allOff_2 := dk_seg dksX54_allOff_1 24 rfl rfl
theorem dX54_allOff_0 : decode cX54_allOff 0 = .ok (.lconst 0, 1) := dk_9 (dk_at dksX54_allOff_0 0 rfl rfl)
theorem dX54_allOff_1 : decode cX54_allOff 1 = .ok (.lstore_n 2, 1) := dk_65 (dk_at dksX54_allOff_0 1 rfl rfl)
theorem dX54_allOff_2 : decode cX54_allOff 2 = .ok (.iconst 0, 1) := dk_3 (dk_at dksX54_allOff_0 2 rfl rfl)
theorem dX54_allOff_3 : decode cX54_allOff 3 = .ok (.istore 4, 2) := dk_54 4 (dk_at dksX54_allOff_0 3 rfl rfl)
theorem dX54_allOff_5 : decode cX54_allOff 5 = .ok (.iload 4, 2) := dk_21 4 (dk_at dksX54_allOff_0 5 rfl rfl)
theorem dX54_allOff_7 : decode cX54_allOff 7 = .ok (.bipush 10, 2) := dk_16 10 (dk_at dksX54_allOff_0 7 rfl rfl)
theorem dX54_allOff_9 : decode cX54_allOff 9 = .ok (.if_icmp .ge 56, 3) := dk_162 0 56 (dk_at dksX54_allOff_0 9 rfl rfl)
theorem dX54_allOff_12 : decode cX54_allOff 12 = .ok (.iconst 0, 1) := dk_3 (dk_at dksX54_allOff_0 12 rfl rfl)
theorem dX54_allOff_13 : decode cX54_allOff 13 = .ok (.istore 5, 2) := dk_54 5 (dk_at dksX54_allOff_0 13 rfl rfl)
theorem dX54_allOff_15 : decode cX54_allOff 15 = .ok (.iload 5, 2) := dk_21 5 (dk_at dksX54_allOff_0 15 rfl rfl)
theorem dX54_allOff_17 : decode cX54_allOff 17 = .ok (.aload_n 0, 1) := dk_42 (dk_at dksX54_allOff_0 17 rfl rfl)
theorem dX54_allOff_18 : decode cX54_allOff 18 = .ok (.getfield 7, 3) := dk_180 0 7 (dk_at dksX54_allOff_0 18 rfl rfl)
theorem dX54_allOff_21 : decode cX54_allOff 21 = .ok (.iconst 0, 1) := dk_3 (dk_at dksX54_allOff_0 21 rfl rfl)
theorem dX54_allOff_22 : decode cX54_allOff 22 = .ok (.iaload, 1) := dk_46 (dk_at dksX54_allOff_0 22 rfl rfl)
theorem dX54_allOff_23 : decode cX54_allOff 23 = .ok (.if_icmp .ge 36, 3) := dk_162 0 36 (dk_at dksX54_allOff_1 0 rfl rfl)
theorem dX54_allOff_26 : decode cX54_allOff 26 = .ok (.lload_n 2, 1) := dk_32 (dk_at dksX54_allOff_1 3 rfl rfl)
theorem dX54_allOff_27 : decode cX54_allOff 27 = .ok (.iload 5, 2) := dk_21 5 (dk_at dksX54_allOff_1 4 rfl rfl)
theorem dX54_allOff_29 : decode cX54_allOff 29 = .ok (.iload_n 1, 1) := dk_27 (dk_at dksX54_allOff_1 6 rfl rfl)
theorem dX54_allOff_30 : decode cX54_allOff 30 = .ok (.if_icmp .eq 20, 3) := dk_159 0 20 (dk_at dksX54_allOff_1 7 rfl rfl)
theorem dX54_allOff_33 : decode cX54_allOff 33 = .ok (.aload_n 0, 1) := dk_42 (dk_at dksX54_allOff_1 10 rfl rfl)
theorem dX54_allOff_34 : decode cX54_allOff 34 = .ok (.iload 5, 2) := dk_21 5 (dk_at dksX54_allOff_1 11 rfl rfl)
theorem dX54_allOff_36 : decode cX54_allOff 36 = .ok (.lload_n 2, 1) := dk_32 (dk_at dksX54_allOff_1 13 rfl rfl)
theorem dX54_allOff_37 : decode cX54_allOff 37 = .ok (.invokevirtual 146, 3) := dk_182 0 146 (dk_at dksX54_allOff_1 14 rfl rfl)
theorem dX54_allOff_40 : decode cX54_allOff 40 = .ok (.ifCond .eq 10, 3) := dk_153 0 10 (dk_at dksX54_allOff_1 17 rfl rfl)
theorem dX54_allOff_43 : decode cX54_allOff 43 = .ok (.lconst 1, 1) := dk_10 (dk_at dksX54_allOff_1 20 rfl rfl)
theorem dX54_allOff_44 : decode cX54_allOff 44 = .ok (.iload 5, 2) := dk_21 5 (dk_at dksX54_allOff_1 21 rfl rfl)
theorem dX54_allOff_46 : decode cX54_allOff 46 = .ok (.lshl, 1) := dk_121 (dk_at dksX54_allOff_1 23 rfl rfl)
theorem dX54_allOff_47 : decode cX54_allOff 47 = .ok (.goto 4, 3) := dk_167 0 4 (dk_at dksX54_allOff_2 0 rfl rfl)
theorem dX54_allOff_50 : decode cX54_allOff 50 = .ok (.lconst 0, 1) := dk_9 (dk_at dksX54_allOff_2 3 rfl rfl)
theorem dX54_allOff_51 : decode cX54_allOff 51 = .ok (.lor, 1) := dk_129 (dk_at dksX54_allOff_2 4 rfl rfl)
theorem dX54_allOff_52 : decode cX54_allOff 52 = .ok (.lstore_n 2, 1) := dk_65 (dk_at dksX54_allOff_2 5 rfl rfl)
theorem dX54_allOff_53 : decode cX54_allOff 53 = .ok (.iinc 5 1, 3) := dk_132 5 1 (dk_at dksX54_allOff_2 6 rfl rfl)
theorem dX54_allOff_56 : decode cX54_allOff 56 = .ok (.goto (-41), 3) := dk_167 255 215 (dk_at dksX54_allOff_2 9 rfl rfl)
theorem dX54_allOff_59 : decode cX54_allOff 59 = .ok (.iinc 4 1, 3) := dk_132 4 1 (dk_at dksX54_allOff_2 12 rfl rfl)
theorem dX54_allOff_62 : decode cX54_allOff 62 = .ok (.goto (-57), 3) := dk_167 255 199 (dk_at dksX54_allOff_2 15 rfl rfl)
theorem dX54_allOff_65 : decode cX54_allOff 65 = .ok (.lload_n 2, 1) := dk_32 (dk_at dksX54_allOff_2 18 rfl rfl)
theorem dX54_allOff_66 : decode cX54_allOff 66 = .ok (.lreturn, 1) := dk_173 (dk_at dksX54_allOff_2 19 rfl rfl)
abbrev cX54_isFree : ByteArray := prog_61_method_30_code
def yX54_isFree : MethodName := ⟨RX54, "isFree", "(IJ)Z"⟩
def dkwX54_isFree_5 : List UInt8 := [3, 172]
abbrev dktX54_isFree_5 : List UInt8 := dkwX54_isFree_5 ++ []
def dkwX54_isFree_4 : List UInt8 := [132, 5, 1, 167, 255, 168, 21, 4, 153, 0, 16, 42, 27, 32, 182, 0, 142, 153, 0, 7, 4, 167, 0, 4]
abbrev dktX54_isFree_4 : List UInt8 := dkwX54_isFree_4 ++ dktX54_isFree_5
def dkwX54_isFree_3 : List UInt8 := [132, 7, 1, 167, 255, 204, 21, 4, 154, 0, 8, 21, 6, 153, 0, 7, 4, 167, 0, 4, 3, 54, 4]
abbrev dktX54_isFree_3 : List UInt8 := dkwX54_isFree_3 ++ dktX54_isFree_4
def dkwX54_isFree_2 : List UInt8 := [184, 0, 61, 51, 153, 0, 12, 32, 21, 7, 184, 0, 138, 153, 0, 7, 4, 167, 0, 4, 3, 54, 6]
abbrev dktX54_isFree_2 : List UInt8 := dkwX54_isFree_2 ++ dktX54_isFree_3
def dkwX54_isFree_1 : List UInt8 := [180, 0, 7, 3, 46, 162, 0, 47, 21, 6, 153, 0, 33, 42, 180, 0, 23, 3, 27, 21, 5, 21, 7]
abbrev dktX54_isFree_1 : List UInt8 := dkwX54_isFree_1 ++ dktX54_isFree_2
def dkwX54_isFree_0 : List UInt8 := [3, 54, 4, 3, 54, 5, 21, 5, 16, 6, 162, 0, 87, 4, 54, 6, 3, 54, 7, 21, 7, 42]
abbrev dktX54_isFree_0 : List UInt8 := dkwX54_isFree_0 ++ dktX54_isFree_1
theorem dksX54_isFree_0 : cX54_isFree.data.toList.drop 0 = dktX54_isFree_0 := by decide +kernel
theorem dksX54_isFree_1 : cX54_isFree.data.toList.drop 22 = dktX54_isFree_1 := dk_seg dksX54_isFree_0 22 rfl rfl
theorem dksX54_isFree_2 : cX54_isFree.data.toList.drop 45 = dktX54_isFree_2 := dk_seg dksX54_isFree_1 23 rfl rfl
theorem dksX54_isFree_3 : cX54_isFree.data.toList.drop 68 = dktX54_isFree_3 := dk_seg dksX54_isFree_2 23 rfl rfl
theorem dksX54_isFree_4 : cX54_isFree.data.toList.drop 91 = dktX54_isFree_4 := dk_seg dksX54_isFree_3 23 rfl rfl
theorem dksX54_isFree_5 : cX54_isFree.data.toList.drop 115 = dktX54_isFree_5 := dk_seg dksX54_isFree_4 24 rfl rfl
theorem dX54_isFree_0 : decode cX54_isFree 0 = .ok (.iconst 0, 1) := dk_3 (dk_at dksX54_isFree_0 0 rfl rfl)
theorem dX54_isFree_1 : decode cX54_isFree 1 = .ok (.istore 4, 2) := dk_54 4 (dk_at dksX54_isFree_0 1 rfl rfl)
theorem dX54_isFree_3 : decode cX54_isFree 3 = .ok (.iconst 0, 1) := dk_3 (dk_at dksX54_isFree_0 3 rfl rfl)
theorem dX54_isFree_4 : decode cX54_isFree 4 = .ok (.istore 5, 2) := dk_54 5 (dk_at dksX54_isFree_0 4 rfl rfl)
theorem dX54_isFree_6 : decode cX54_isFree 6 = .ok (.iload 5, 2) := dk_21 5 (dk_at dksX54_isFree_0 6 rfl rfl)
theorem dX54_isFree_8 : decode cX54_isFree 8 = .ok (.bipush 6, 2) := dk_16 6 (dk_at dksX54_isFree_0 8 rfl rfl)
theorem dX54_isFree_10 : decode cX54_isFree 10 = .ok (.if_icmp .ge 87, 3) := dk_162 0 87 (dk_at dksX54_isFree_0 10 rfl rfl)
theorem dX54_isFree_13 : decode cX54_isFree 13 = .ok (.iconst 1, 1) := dk_4 (dk_at dksX54_isFree_0 13 rfl rfl)
theorem dX54_isFree_14 : decode cX54_isFree 14 = .ok (.istore 6, 2) := dk_54 6 (dk_at dksX54_isFree_0 14 rfl rfl)
theorem dX54_isFree_16 : decode cX54_isFree 16 = .ok (.iconst 0, 1) := dk_3 (dk_at dksX54_isFree_0 16 rfl rfl)
theorem dX54_isFree_17 : decode cX54_isFree 17 = .ok (.istore 7, 2) := dk_54 7 (dk_at dksX54_isFree_0 17 rfl rfl)
theorem dX54_isFree_19 : decode cX54_isFree 19 = .ok (.iload 7, 2) := dk_21 7 (dk_at dksX54_isFree_0 19 rfl rfl)
theorem dX54_isFree_21 : decode cX54_isFree 21 = .ok (.aload_n 0, 1) := dk_42 (dk_at dksX54_isFree_0 21 rfl rfl)
theorem dX54_isFree_22 : decode cX54_isFree 22 = .ok (.getfield 7, 3) := dk_180 0 7 (dk_at dksX54_isFree_1 0 rfl rfl)
theorem dX54_isFree_25 : decode cX54_isFree 25 = .ok (.iconst 0, 1) := dk_3 (dk_at dksX54_isFree_1 3 rfl rfl)
theorem dX54_isFree_26 : decode cX54_isFree 26 = .ok (.iaload, 1) := dk_46 (dk_at dksX54_isFree_1 4 rfl rfl)
theorem dX54_isFree_27 : decode cX54_isFree 27 = .ok (.if_icmp .ge 47, 3) := dk_162 0 47 (dk_at dksX54_isFree_1 5 rfl rfl)
theorem dX54_isFree_30 : decode cX54_isFree 30 = .ok (.iload 6, 2) := dk_21 6 (dk_at dksX54_isFree_1 8 rfl rfl)
theorem dX54_isFree_32 : decode cX54_isFree 32 = .ok (.ifCond .eq 33, 3) := dk_153 0 33 (dk_at dksX54_isFree_1 10 rfl rfl)
theorem dX54_isFree_35 : decode cX54_isFree 35 = .ok (.aload_n 0, 1) := dk_42 (dk_at dksX54_isFree_1 13 rfl rfl)
theorem dX54_isFree_36 : decode cX54_isFree 36 = .ok (.getfield 23, 3) := dk_180 0 23 (dk_at dksX54_isFree_1 14 rfl rfl)
theorem dX54_isFree_39 : decode cX54_isFree 39 = .ok (.iconst 0, 1) := dk_3 (dk_at dksX54_isFree_1 17 rfl rfl)
theorem dX54_isFree_40 : decode cX54_isFree 40 = .ok (.iload_n 1, 1) := dk_27 (dk_at dksX54_isFree_1 18 rfl rfl)
theorem dX54_isFree_41 : decode cX54_isFree 41 = .ok (.iload 5, 2) := dk_21 5 (dk_at dksX54_isFree_1 19 rfl rfl)
theorem dX54_isFree_43 : decode cX54_isFree 43 = .ok (.iload 7, 2) := dk_21 7 (dk_at dksX54_isFree_1 21 rfl rfl)
theorem dX54_isFree_45 : decode cX54_isFree 45 = .ok (.invokestatic 61, 3) := dk_184 0 61 (dk_at dksX54_isFree_2 0 rfl rfl)
theorem dX54_isFree_48 : decode cX54_isFree 48 = .ok (.baload, 1) := dk_51 (dk_at dksX54_isFree_2 3 rfl rfl)
theorem dX54_isFree_49 : decode cX54_isFree 49 = .ok (.ifCond .eq 12, 3) := dk_153 0 12 (dk_at dksX54_isFree_2 4 rfl rfl)
theorem dX54_isFree_52 : decode cX54_isFree 52 = .ok (.lload_n 2, 1) := dk_32 (dk_at dksX54_isFree_2 7 rfl rfl)
theorem dX54_isFree_53 : decode cX54_isFree 53 = .ok (.iload 7, 2) := dk_21 7 (dk_at dksX54_isFree_2 8 rfl rfl)
theorem dX54_isFree_55 : decode cX54_isFree 55 = .ok (.invokestatic 138, 3) := dk_184 0 138 (dk_at dksX54_isFree_2 10 rfl rfl)
theorem dX54_isFree_58 : decode cX54_isFree 58 = .ok (.ifCond .eq 7, 3) := dk_153 0 7 (dk_at dksX54_isFree_2 13 rfl rfl)
theorem dX54_isFree_61 : decode cX54_isFree 61 = .ok (.iconst 1, 1) := dk_4 (dk_at dksX54_isFree_2 16 rfl rfl)
theorem dX54_isFree_62 : decode cX54_isFree 62 = .ok (.goto 4, 3) := dk_167 0 4 (dk_at dksX54_isFree_2 17 rfl rfl)
theorem dX54_isFree_65 : decode cX54_isFree 65 = .ok (.iconst 0, 1) := dk_3 (dk_at dksX54_isFree_2 20 rfl rfl)
theorem dX54_isFree_66 : decode cX54_isFree 66 = .ok (.istore 6, 2) := dk_54 6 (dk_at dksX54_isFree_2 21 rfl rfl)
theorem dX54_isFree_68 : decode cX54_isFree 68 = .ok (.iinc 7 1, 3) := dk_132 7 1 (dk_at dksX54_isFree_3 0 rfl rfl)
theorem dX54_isFree_71 : decode cX54_isFree 71 = .ok (.goto (-52), 3) := dk_167 255 204 (dk_at dksX54_isFree_3 3 rfl rfl)
theorem dX54_isFree_74 : decode cX54_isFree 74 = .ok (.iload 4, 2) := dk_21 4 (dk_at dksX54_isFree_3 6 rfl rfl)
theorem dX54_isFree_76 : decode cX54_isFree 76 = .ok (.ifCond .ne 8, 3) := dk_154 0 8 (dk_at dksX54_isFree_3 8 rfl rfl)
theorem dX54_isFree_79 : decode cX54_isFree 79 = .ok (.iload 6, 2) := dk_21 6 (dk_at dksX54_isFree_3 11 rfl rfl)
theorem dX54_isFree_81 : decode cX54_isFree 81 = .ok (.ifCond .eq 7, 3) := dk_153 0 7 (dk_at dksX54_isFree_3 13 rfl rfl)
theorem dX54_isFree_84 : decode cX54_isFree 84 = .ok (.iconst 1, 1) := dk_4 (dk_at dksX54_isFree_3 16 rfl rfl)
theorem dX54_isFree_85 : decode cX54_isFree 85 = .ok (.goto 4, 3) := dk_167 0 4 (dk_at dksX54_isFree_3 17 rfl rfl)
theorem dX54_isFree_88 : decode cX54_isFree 88 = .ok (.iconst 0, 1) := dk_3 (dk_at dksX54_isFree_3 20 rfl rfl)
theorem dX54_isFree_89 : decode cX54_isFree 89 = .ok (.istore 4, 2) := dk_54 4 (dk_at dksX54_isFree_3 21 rfl rfl)
theorem dX54_isFree_91 : decode cX54_isFree 91 = .ok (.iinc 5 1, 3) := dk_132 5 1 (dk_at dksX54_isFree_4 0 rfl rfl)
theorem dX54_isFree_94 : decode cX54_isFree 94 = .ok (.goto (-88), 3) := dk_167 255 168 (dk_at dksX54_isFree_4 3 rfl rfl)
theorem dX54_isFree_97 : decode cX54_isFree 97 = .ok (.iload 4, 2) := dk_21 4 (dk_at dksX54_isFree_4 6 rfl rfl)
theorem dX54_isFree_99 : decode cX54_isFree 99 = .ok (.ifCond .eq 16, 3) := dk_153 0 16 (dk_at dksX54_isFree_4 8 rfl rfl)
theorem dX54_isFree_102 : decode cX54_isFree 102 = .ok (.aload_n 0, 1) := dk_42 (dk_at dksX54_isFree_4 11 rfl rfl)
theorem dX54_isFree_103 : decode cX54_isFree 103 = .ok (.iload_n 1, 1) := dk_27 (dk_at dksX54_isFree_4 12 rfl rfl)
theorem dX54_isFree_104 : decode cX54_isFree 104 = .ok (.lload_n 2, 1) := dk_32 (dk_at dksX54_isFree_4 13 rfl rfl)
theorem dX54_isFree_105 : decode cX54_isFree 105 = .ok (.invokevirtual 142, 3) := dk_182 0 142 (dk_at dksX54_isFree_4 14 rfl rfl)
theorem dX54_isFree_108 : decode cX54_isFree 108 = .ok (.ifCond .eq 7, 3) := dk_153 0 7 (dk_at dksX54_isFree_4 17 rfl rfl)
theorem dX54_isFree_111 : decode cX54_isFree 111 = .ok (.iconst 1, 1) := dk_4 (dk_at dksX54_isFree_4 20 rfl rfl)
theorem dX54_isFree_112 : decode cX54_isFree 112 = .ok (.goto 4, 3) := dk_167 0 4 (dk_at dksX54_isFree_4 21 rfl rfl)
theorem dX54_isFree_115 : decode cX54_isFree 115 = .ok (.iconst 0, 1) := dk_3 (dk_at dksX54_isFree_5 0 rfl rfl)
theorem dX54_isFree_116 : decode cX54_isFree 116 = .ok (.ireturn, 1) := dk_172 (dk_at dksX54_isFree_5 1 rfl rfl)
abbrev cX54_wayAt : ByteArray := prog_61_method_6_code
def yX54_wayAt : MethodName := ⟨RX54, "wayAt", "(IIII)I"⟩
def dkwX54_wayAt_0 : List UInt8 := [17, 2, 88, 26, 104, 16, 100, 28, 104, 96, 16, 10, 27, 104, 96, 29, 96, 172]
abbrev dktX54_wayAt_0 : List UInt8 := dkwX54_wayAt_0 ++ []
theorem dksX54_wayAt_0 : cX54_wayAt.data.toList.drop 0 = dktX54_wayAt_0 := by decide +kernel
theorem dX54_wayAt_0 : decode cX54_wayAt 0 = .ok (.sipush 600, 3) := dk_17 2 88 (dk_at dksX54_wayAt_0 0 rfl rfl)
theorem dX54_wayAt_3 : decode cX54_wayAt 3 = .ok (.iload_n 0, 1) := dk_26 (dk_at dksX54_wayAt_0 3 rfl rfl)
theorem dX54_wayAt_4 : decode cX54_wayAt 4 = .ok (.imul, 1) := dk_104 (dk_at dksX54_wayAt_0 4 rfl rfl)
theorem dX54_wayAt_5 : decode cX54_wayAt 5 = .ok (.bipush 100, 2) := dk_16 100 (dk_at dksX54_wayAt_0 5 rfl rfl)
theorem dX54_wayAt_7 : decode cX54_wayAt 7 = .ok (.iload_n 2, 1) := dk_28 (dk_at dksX54_wayAt_0 7 rfl rfl)
theorem dX54_wayAt_8 : decode cX54_wayAt 8 = .ok (.imul, 1) := dk_104 (dk_at dksX54_wayAt_0 8 rfl rfl)
theorem dX54_wayAt_9 : decode cX54_wayAt 9 = .ok (.iadd, 1) := dk_96 (dk_at dksX54_wayAt_0 9 rfl rfl)
theorem dX54_wayAt_10 : decode cX54_wayAt 10 = .ok (.bipush 10, 2) := dk_16 10 (dk_at dksX54_wayAt_0 10 rfl rfl)
theorem dX54_wayAt_12 : decode cX54_wayAt 12 = .ok (.iload_n 1, 1) := dk_27 (dk_at dksX54_wayAt_0 12 rfl rfl)
theorem dX54_wayAt_13 : decode cX54_wayAt 13 = .ok (.imul, 1) := dk_104 (dk_at dksX54_wayAt_0 13 rfl rfl)
theorem dX54_wayAt_14 : decode cX54_wayAt 14 = .ok (.iadd, 1) := dk_96 (dk_at dksX54_wayAt_0 14 rfl rfl)
theorem dX54_wayAt_15 : decode cX54_wayAt 15 = .ok (.iload_n 3, 1) := dk_29 (dk_at dksX54_wayAt_0 15 rfl rfl)
theorem dX54_wayAt_16 : decode cX54_wayAt 16 = .ok (.iadd, 1) := dk_96 (dk_at dksX54_wayAt_0 16 rfl rfl)
theorem dX54_wayAt_17 : decode cX54_wayAt 17 = .ok (.ireturn, 1) := dk_172 (dk_at dksX54_wayAt_0 17 rfl rfl)
abbrev cX54_isOff : ByteArray := prog_61_method_28_code
def yX54_isOff : MethodName := ⟨RX54, "isOff", "(JI)Z"⟩
def dkwX54_isOff_0 : List UInt8 := [30, 28, 123, 10, 127, 10, 148, 154, 0, 7, 4, 167, 0, 4, 3, 172]
abbrev dktX54_isOff_0 : List UInt8 := dkwX54_isOff_0 ++ []
theorem dksX54_isOff_0 : cX54_isOff.data.toList.drop 0 = dktX54_isOff_0 := by decide +kernel
theorem dX54_isOff_0 : decode cX54_isOff 0 = .ok (.lload_n 0, 1) := dk_30 (dk_at dksX54_isOff_0 0 rfl rfl)
theorem dX54_isOff_1 : decode cX54_isOff 1 = .ok (.iload_n 2, 1) := dk_28 (dk_at dksX54_isOff_0 1 rfl rfl)
theorem dX54_isOff_2 : decode cX54_isOff 2 = .ok (.lshr, 1) := dk_123 (dk_at dksX54_isOff_0 2 rfl rfl)
theorem dX54_isOff_3 : decode cX54_isOff 3 = .ok (.lconst 1, 1) := dk_10 (dk_at dksX54_isOff_0 3 rfl rfl)
theorem dX54_isOff_4 : decode cX54_isOff 4 = .ok (.land, 1) := dk_127 (dk_at dksX54_isOff_0 4 rfl rfl)
theorem dX54_isOff_5 : decode cX54_isOff 5 = .ok (.lconst 1, 1) := dk_10 (dk_at dksX54_isOff_0 5 rfl rfl)
theorem dX54_isOff_6 : decode cX54_isOff 6 = .ok (.lcmp, 1) := dk_148 (dk_at dksX54_isOff_0 6 rfl rfl)
theorem dX54_isOff_7 : decode cX54_isOff 7 = .ok (.ifCond .ne 7, 3) := dk_154 0 7 (dk_at dksX54_isOff_0 7 rfl rfl)
theorem dX54_isOff_10 : decode cX54_isOff 10 = .ok (.iconst 1, 1) := dk_4 (dk_at dksX54_isOff_0 10 rfl rfl)
theorem dX54_isOff_11 : decode cX54_isOff 11 = .ok (.goto 4, 3) := dk_167 0 4 (dk_at dksX54_isOff_0 11 rfl rfl)
theorem dX54_isOff_14 : decode cX54_isOff 14 = .ok (.iconst 0, 1) := dk_3 (dk_at dksX54_isOff_0 14 rfl rfl)
theorem dX54_isOff_15 : decode cX54_isOff 15 = .ok (.ireturn, 1) := dk_172 (dk_at dksX54_isOff_0 15 rfl rfl)
abbrev cX54_isPlain : ByteArray := prog_61_method_29_code
def yX54_isPlain : MethodName := ⟨RX54, "isPlain", "(IJ)Z"⟩
def dkwX54_isPlain_3 : List UInt8 := [167, 255, 206, 21, 4, 172]
abbrev dktX54_isPlain_3 : List UInt8 := dkwX54_isPlain_3 ++ []
def dkwX54_isPlain_2 : List UInt8 := [153, 0, 12, 32, 21, 5, 184, 0, 138, 153, 0, 7, 4, 167, 0, 4, 3, 54, 4, 132, 5, 1]
abbrev dktX54_isPlain_2 : List UInt8 := dkwX54_isPlain_2 ++ dktX54_isPlain_3
def dkwX54_isPlain_1 : List UInt8 := [3, 46, 162, 0, 45, 21, 4, 153, 0, 31, 42, 180, 0, 19, 16, 10, 21, 5, 104, 27, 96, 51]
abbrev dktX54_isPlain_1 : List UInt8 := dkwX54_isPlain_1 ++ dktX54_isPlain_2
def dkwX54_isPlain_0 : List UInt8 := [32, 27, 184, 0, 138, 154, 0, 7, 4, 167, 0, 4, 3, 54, 4, 3, 54, 5, 21, 5, 42, 180, 0, 7]
abbrev dktX54_isPlain_0 : List UInt8 := dkwX54_isPlain_0 ++ dktX54_isPlain_1
theorem dksX54_isPlain_0 : cX54_isPlain.data.toList.drop 0 = dktX54_isPlain_0 := by decide +kernel
theorem dksX54_isPlain_1 : cX54_isPlain.data.toList.drop 24 = dktX54_isPlain_1 := dk_seg dksX54_isPlain_0 24 rfl rfl
theorem dksX54_isPlain_2 : cX54_isPlain.data.toList.drop 46 = dktX54_isPlain_2 := dk_seg dksX54_isPlain_1 22 rfl rfl
theorem dksX54_isPlain_3 : cX54_isPlain.data.toList.drop 68 = dktX54_isPlain_3 := dk_seg dksX54_isPlain_2 22 rfl rfl
theorem dX54_isPlain_0 : decode cX54_isPlain 0 = .ok (.lload_n 2, 1) := dk_32 (dk_at dksX54_isPlain_0 0 rfl rfl)
theorem dX54_isPlain_1 : decode cX54_isPlain 1 = .ok (.iload_n 1, 1) := dk_27 (dk_at dksX54_isPlain_0 1 rfl rfl)
theorem dX54_isPlain_2 : decode cX54_isPlain 2 = .ok (.invokestatic 138, 3) := dk_184 0 138 (dk_at dksX54_isPlain_0 2 rfl rfl)
theorem dX54_isPlain_5 : decode cX54_isPlain 5 = .ok (.ifCond .ne 7, 3) := dk_154 0 7 (dk_at dksX54_isPlain_0 5 rfl rfl)
theorem dX54_isPlain_8 : decode cX54_isPlain 8 = .ok (.iconst 1, 1) := dk_4 (dk_at dksX54_isPlain_0 8 rfl rfl)
theorem dX54_isPlain_9 : decode cX54_isPlain 9 = .ok (.goto 4, 3) := dk_167 0 4 (dk_at dksX54_isPlain_0 9 rfl rfl)
theorem dX54_isPlain_12 : decode cX54_isPlain 12 = .ok (.iconst 0, 1) := dk_3 (dk_at dksX54_isPlain_0 12 rfl rfl)
theorem dX54_isPlain_13 : decode cX54_isPlain 13 = .ok (.istore 4, 2) := dk_54 4 (dk_at dksX54_isPlain_0 13 rfl rfl)
theorem dX54_isPlain_15 : decode cX54_isPlain 15 = .ok (.iconst 0, 1) := dk_3 (dk_at dksX54_isPlain_0 15 rfl rfl)
theorem dX54_isPlain_16 : decode cX54_isPlain 16 = .ok (.istore 5, 2) := dk_54 5 (dk_at dksX54_isPlain_0 16 rfl rfl)
theorem dX54_isPlain_18 : decode cX54_isPlain 18 = .ok (.iload 5, 2) := dk_21 5 (dk_at dksX54_isPlain_0 18 rfl rfl)
theorem dX54_isPlain_20 : decode cX54_isPlain 20 = .ok (.aload_n 0, 1) := dk_42 (dk_at dksX54_isPlain_0 20 rfl rfl)
theorem dX54_isPlain_21 : decode cX54_isPlain 21 = .ok (.getfield 7, 3) := dk_180 0 7 (dk_at dksX54_isPlain_0 21 rfl rfl)
theorem dX54_isPlain_24 : decode cX54_isPlain 24 = .ok (.iconst 0, 1) := dk_3 (dk_at dksX54_isPlain_1 0 rfl rfl)
theorem dX54_isPlain_25 : decode cX54_isPlain 25 = .ok (.iaload, 1) := dk_46 (dk_at dksX54_isPlain_1 1 rfl rfl)
theorem dX54_isPlain_26 : decode cX54_isPlain 26 = .ok (.if_icmp .ge 45, 3) := dk_162 0 45 (dk_at dksX54_isPlain_1 2 rfl rfl)
theorem dX54_isPlain_29 : decode cX54_isPlain 29 = .ok (.iload 4, 2) := dk_21 4 (dk_at dksX54_isPlain_1 5 rfl rfl)
theorem dX54_isPlain_31 : decode cX54_isPlain 31 = .ok (.ifCond .eq 31, 3) := dk_153 0 31 (dk_at dksX54_isPlain_1 7 rfl rfl)
theorem dX54_isPlain_34 : decode cX54_isPlain 34 = .ok (.aload_n 0, 1) := dk_42 (dk_at dksX54_isPlain_1 10 rfl rfl)
theorem dX54_isPlain_35 : decode cX54_isPlain 35 = .ok (.getfield 19, 3) := dk_180 0 19 (dk_at dksX54_isPlain_1 11 rfl rfl)
theorem dX54_isPlain_38 : decode cX54_isPlain 38 = .ok (.bipush 10, 2) := dk_16 10 (dk_at dksX54_isPlain_1 14 rfl rfl)
theorem dX54_isPlain_40 : decode cX54_isPlain 40 = .ok (.iload 5, 2) := dk_21 5 (dk_at dksX54_isPlain_1 16 rfl rfl)
theorem dX54_isPlain_42 : decode cX54_isPlain 42 = .ok (.imul, 1) := dk_104 (dk_at dksX54_isPlain_1 18 rfl rfl)
theorem dX54_isPlain_43 : decode cX54_isPlain 43 = .ok (.iload_n 1, 1) := dk_27 (dk_at dksX54_isPlain_1 19 rfl rfl)
theorem dX54_isPlain_44 : decode cX54_isPlain 44 = .ok (.iadd, 1) := dk_96 (dk_at dksX54_isPlain_1 20 rfl rfl)
theorem dX54_isPlain_45 : decode cX54_isPlain 45 = .ok (.baload, 1) := dk_51 (dk_at dksX54_isPlain_1 21 rfl rfl)
theorem dX54_isPlain_46 : decode cX54_isPlain 46 = .ok (.ifCond .eq 12, 3) := dk_153 0 12 (dk_at dksX54_isPlain_2 0 rfl rfl)
theorem dX54_isPlain_49 : decode cX54_isPlain 49 = .ok (.lload_n 2, 1) := dk_32 (dk_at dksX54_isPlain_2 3 rfl rfl)
theorem dX54_isPlain_50 : decode cX54_isPlain 50 = .ok (.iload 5, 2) := dk_21 5 (dk_at dksX54_isPlain_2 4 rfl rfl)
theorem dX54_isPlain_52 : decode cX54_isPlain 52 = .ok (.invokestatic 138, 3) := dk_184 0 138 (dk_at dksX54_isPlain_2 6 rfl rfl)
theorem dX54_isPlain_55 : decode cX54_isPlain 55 = .ok (.ifCond .eq 7, 3) := dk_153 0 7 (dk_at dksX54_isPlain_2 9 rfl rfl)
theorem dX54_isPlain_58 : decode cX54_isPlain 58 = .ok (.iconst 1, 1) := dk_4 (dk_at dksX54_isPlain_2 12 rfl rfl)
theorem dX54_isPlain_59 : decode cX54_isPlain 59 = .ok (.goto 4, 3) := dk_167 0 4 (dk_at dksX54_isPlain_2 13 rfl rfl)
theorem dX54_isPlain_62 : decode cX54_isPlain 62 = .ok (.iconst 0, 1) := dk_3 (dk_at dksX54_isPlain_2 16 rfl rfl)
theorem dX54_isPlain_63 : decode cX54_isPlain 63 = .ok (.istore 4, 2) := dk_54 4 (dk_at dksX54_isPlain_2 17 rfl rfl)
theorem dX54_isPlain_65 : decode cX54_isPlain 65 = .ok (.iinc 5 1, 3) := dk_132 5 1 (dk_at dksX54_isPlain_2 19 rfl rfl)
theorem dX54_isPlain_68 : decode cX54_isPlain 68 = .ok (.goto (-50), 3) := dk_167 255 206 (dk_at dksX54_isPlain_3 0 rfl rfl)
theorem dX54_isPlain_71 : decode cX54_isPlain 71 = .ok (.iload 4, 2) := dk_21 4 (dk_at dksX54_isPlain_3 3 rfl rfl)
theorem dX54_isPlain_73 : decode cX54_isPlain 73 = .ok (.ireturn, 1) := dk_172 (dk_at dksX54_isPlain_3 5 rfl rfl)
abbrev cX54_before : ByteArray := prog_61_method_34_code
def yX54_before : MethodName := ⟨RX54, "before", "(II)I"⟩
def dkwX54_before_3 : List UInt8 := [132, 3, 1, 132, 4, 1, 167, 255, 212, 2, 172]
abbrev dktX54_before_3 : List UInt8 := dkwX54_before_3 ++ []
def dkwX54_before_2 : List UInt8 := [159, 0, 27, 42, 21, 4, 182, 0, 149, 27, 184, 0, 138, 154, 0, 14, 29, 28, 160, 0, 6, 21, 4, 172]
abbrev dktX54_before_2 : List UInt8 := dkwX54_before_2 ++ dktX54_before_3
def dkwX54_before_1 : List UInt8 := [154, 0, 5, 2, 172, 3, 62, 3, 54, 4, 21, 4, 42, 180, 0, 7, 3, 46, 162, 0, 39, 21, 4, 27]
abbrev dktX54_before_1 : List UInt8 := dkwX54_before_1 ++ dktX54_before_2
def dkwX54_before_0 : List UInt8 := [42, 3, 181, 0, 52, 42, 3, 27, 182, 0, 57, 153, 0, 15, 42, 2, 182, 0, 149, 27, 184, 0, 138]
abbrev dktX54_before_0 : List UInt8 := dkwX54_before_0 ++ dktX54_before_1
theorem dksX54_before_0 : cX54_before.data.toList.drop 0 = dktX54_before_0 := by decide +kernel
theorem dksX54_before_1 : cX54_before.data.toList.drop 23 = dktX54_before_1 := dk_seg dksX54_before_0 23 rfl rfl
theorem dksX54_before_2 : cX54_before.data.toList.drop 47 = dktX54_before_2 := dk_seg dksX54_before_1 24 rfl rfl
theorem dksX54_before_3 : cX54_before.data.toList.drop 71 = dktX54_before_3 := dk_seg dksX54_before_2 24 rfl rfl
theorem dX54_before_0 : decode cX54_before 0 = .ok (.aload_n 0, 1) := dk_42 (dk_at dksX54_before_0 0 rfl rfl)
theorem dX54_before_1 : decode cX54_before 1 = .ok (.iconst 0, 1) := dk_3 (dk_at dksX54_before_0 1 rfl rfl)
theorem dX54_before_2 : decode cX54_before 2 = .ok (.putfield 52, 3) := dk_181 0 52 (dk_at dksX54_before_0 2 rfl rfl)
theorem dX54_before_5 : decode cX54_before 5 = .ok (.aload_n 0, 1) := dk_42 (dk_at dksX54_before_0 5 rfl rfl)
theorem dX54_before_6 : decode cX54_before 6 = .ok (.iconst 0, 1) := dk_3 (dk_at dksX54_before_0 6 rfl rfl)
theorem dX54_before_7 : decode cX54_before 7 = .ok (.iload_n 1, 1) := dk_27 (dk_at dksX54_before_0 7 rfl rfl)
theorem dX54_before_8 : decode cX54_before 8 = .ok (.invokevirtual 57, 3) := dk_182 0 57 (dk_at dksX54_before_0 8 rfl rfl)
theorem dX54_before_11 : decode cX54_before 11 = .ok (.ifCond .eq 15, 3) := dk_153 0 15 (dk_at dksX54_before_0 11 rfl rfl)
theorem dX54_before_14 : decode cX54_before 14 = .ok (.aload_n 0, 1) := dk_42 (dk_at dksX54_before_0 14 rfl rfl)
theorem dX54_before_15 : decode cX54_before 15 = .ok (.iconst (-1), 1) := dk_2 (dk_at dksX54_before_0 15 rfl rfl)
theorem dX54_before_16 : decode cX54_before 16 = .ok (.invokevirtual 149, 3) := dk_182 0 149 (dk_at dksX54_before_0 16 rfl rfl)
theorem dX54_before_19 : decode cX54_before 19 = .ok (.iload_n 1, 1) := dk_27 (dk_at dksX54_before_0 19 rfl rfl)
theorem dX54_before_20 : decode cX54_before 20 = .ok (.invokestatic 138, 3) := dk_184 0 138 (dk_at dksX54_before_0 20 rfl rfl)
theorem dX54_before_23 : decode cX54_before 23 = .ok (.ifCond .ne 5, 3) := dk_154 0 5 (dk_at dksX54_before_1 0 rfl rfl)
theorem dX54_before_26 : decode cX54_before 26 = .ok (.iconst (-1), 1) := dk_2 (dk_at dksX54_before_1 3 rfl rfl)
theorem dX54_before_27 : decode cX54_before 27 = .ok (.ireturn, 1) := dk_172 (dk_at dksX54_before_1 4 rfl rfl)
theorem dX54_before_28 : decode cX54_before 28 = .ok (.iconst 0, 1) := dk_3 (dk_at dksX54_before_1 5 rfl rfl)
theorem dX54_before_29 : decode cX54_before 29 = .ok (.istore_n 3, 1) := dk_62 (dk_at dksX54_before_1 6 rfl rfl)
theorem dX54_before_30 : decode cX54_before 30 = .ok (.iconst 0, 1) := dk_3 (dk_at dksX54_before_1 7 rfl rfl)
theorem dX54_before_31 : decode cX54_before 31 = .ok (.istore 4, 2) := dk_54 4 (dk_at dksX54_before_1 8 rfl rfl)
theorem dX54_before_33 : decode cX54_before 33 = .ok (.iload 4, 2) := dk_21 4 (dk_at dksX54_before_1 10 rfl rfl)
theorem dX54_before_35 : decode cX54_before 35 = .ok (.aload_n 0, 1) := dk_42 (dk_at dksX54_before_1 12 rfl rfl)
theorem dX54_before_36 : decode cX54_before 36 = .ok (.getfield 7, 3) := dk_180 0 7 (dk_at dksX54_before_1 13 rfl rfl)
theorem dX54_before_39 : decode cX54_before 39 = .ok (.iconst 0, 1) := dk_3 (dk_at dksX54_before_1 16 rfl rfl)
theorem dX54_before_40 : decode cX54_before 40 = .ok (.iaload, 1) := dk_46 (dk_at dksX54_before_1 17 rfl rfl)
theorem dX54_before_41 : decode cX54_before 41 = .ok (.if_icmp .ge 39, 3) := dk_162 0 39 (dk_at dksX54_before_1 18 rfl rfl)
theorem dX54_before_44 : decode cX54_before 44 = .ok (.iload 4, 2) := dk_21 4 (dk_at dksX54_before_1 21 rfl rfl)
theorem dX54_before_46 : decode cX54_before 46 = .ok (.iload_n 1, 1) := dk_27 (dk_at dksX54_before_1 23 rfl rfl)
theorem dX54_before_47 : decode cX54_before 47 = .ok (.if_icmp .eq 27, 3) := dk_159 0 27 (dk_at dksX54_before_2 0 rfl rfl)
theorem dX54_before_50 : decode cX54_before 50 = .ok (.aload_n 0, 1) := dk_42 (dk_at dksX54_before_2 3 rfl rfl)
theorem dX54_before_51 : decode cX54_before 51 = .ok (.iload 4, 2) := dk_21 4 (dk_at dksX54_before_2 4 rfl rfl)
theorem dX54_before_53 : decode cX54_before 53 = .ok (.invokevirtual 149, 3) := dk_182 0 149 (dk_at dksX54_before_2 6 rfl rfl)
theorem dX54_before_56 : decode cX54_before 56 = .ok (.iload_n 1, 1) := dk_27 (dk_at dksX54_before_2 9 rfl rfl)
theorem dX54_before_57 : decode cX54_before 57 = .ok (.invokestatic 138, 3) := dk_184 0 138 (dk_at dksX54_before_2 10 rfl rfl)
theorem dX54_before_60 : decode cX54_before 60 = .ok (.ifCond .ne 14, 3) := dk_154 0 14 (dk_at dksX54_before_2 13 rfl rfl)
theorem dX54_before_63 : decode cX54_before 63 = .ok (.iload_n 3, 1) := dk_29 (dk_at dksX54_before_2 16 rfl rfl)
theorem dX54_before_64 : decode cX54_before 64 = .ok (.iload_n 2, 1) := dk_28 (dk_at dksX54_before_2 17 rfl rfl)
theorem dX54_before_65 : decode cX54_before 65 = .ok (.if_icmp .ne 6, 3) := dk_160 0 6 (dk_at dksX54_before_2 18 rfl rfl)
theorem dX54_before_68 : decode cX54_before 68 = .ok (.iload 4, 2) := dk_21 4 (dk_at dksX54_before_2 21 rfl rfl)
theorem dX54_before_70 : decode cX54_before 70 = .ok (.ireturn, 1) := dk_172 (dk_at dksX54_before_2 23 rfl rfl)
theorem dX54_before_71 : decode cX54_before 71 = .ok (.iinc 3 1, 3) := dk_132 3 1 (dk_at dksX54_before_3 0 rfl rfl)
theorem dX54_before_74 : decode cX54_before 74 = .ok (.iinc 4 1, 3) := dk_132 4 1 (dk_at dksX54_before_3 3 rfl rfl)
theorem dX54_before_77 : decode cX54_before 77 = .ok (.goto (-44), 3) := dk_167 255 212 (dk_at dksX54_before_3 6 rfl rfl)
theorem dX54_before_80 : decode cX54_before 80 = .ok (.iconst (-1), 1) := dk_2 (dk_at dksX54_before_3 9 rfl rfl)
theorem dX54_before_81 : decode cX54_before 81 = .ok (.ireturn, 1) := dk_172 (dk_at dksX54_before_3 10 rfl rfl)
abbrev cX54_isPart : ByteArray := prog_61_method_5_code
def yX54_isPart : MethodName := ⟨RX54, "isPart", "(II)Z"⟩
def dkwX54_isPart_0 : List UInt8 := [28, 155, 0, 17, 28, 42, 180, 0, 7, 27, 46, 162, 0, 7, 4, 167, 0, 4, 3, 172]
abbrev dktX54_isPart_0 : List UInt8 := dkwX54_isPart_0 ++ []
theorem dksX54_isPart_0 : cX54_isPart.data.toList.drop 0 = dktX54_isPart_0 := by decide +kernel
theorem dX54_isPart_0 : decode cX54_isPart 0 = .ok (.iload_n 2, 1) := dk_28 (dk_at dksX54_isPart_0 0 rfl rfl)
theorem dX54_isPart_1 : decode cX54_isPart 1 = .ok (.ifCond .lt 17, 3) := dk_155 0 17 (dk_at dksX54_isPart_0 1 rfl rfl)
theorem dX54_isPart_4 : decode cX54_isPart 4 = .ok (.iload_n 2, 1) := dk_28 (dk_at dksX54_isPart_0 4 rfl rfl)
theorem dX54_isPart_5 : decode cX54_isPart 5 = .ok (.aload_n 0, 1) := dk_42 (dk_at dksX54_isPart_0 5 rfl rfl)
theorem dX54_isPart_6 : decode cX54_isPart 6 = .ok (.getfield 7, 3) := dk_180 0 7 (dk_at dksX54_isPart_0 6 rfl rfl)
theorem dX54_isPart_9 : decode cX54_isPart 9 = .ok (.iload_n 1, 1) := dk_27 (dk_at dksX54_isPart_0 9 rfl rfl)
theorem dX54_isPart_10 : decode cX54_isPart 10 = .ok (.iaload, 1) := dk_46 (dk_at dksX54_isPart_0 10 rfl rfl)
theorem dX54_isPart_11 : decode cX54_isPart 11 = .ok (.if_icmp .ge 7, 3) := dk_162 0 7 (dk_at dksX54_isPart_0 11 rfl rfl)
theorem dX54_isPart_14 : decode cX54_isPart 14 = .ok (.iconst 1, 1) := dk_4 (dk_at dksX54_isPart_0 14 rfl rfl)
theorem dX54_isPart_15 : decode cX54_isPart 15 = .ok (.goto 4, 3) := dk_167 0 4 (dk_at dksX54_isPart_0 15 rfl rfl)
theorem dX54_isPart_18 : decode cX54_isPart 18 = .ok (.iconst 0, 1) := dk_3 (dk_at dksX54_isPart_0 18 rfl rfl)
theorem dX54_isPart_19 : decode cX54_isPart 19 = .ok (.ireturn, 1) := dk_172 (dk_at dksX54_isPart_0 19 rfl rfl)
abbrev cX54_unit : ByteArray := prog_61_method_11_code
def yX54_unit : MethodName := ⟨RX54, "unit", "(I)Z"⟩
def dkwX54_unit_2 : List UInt8 := [181, 0, 69, 4, 172]
abbrev dktX54_unit_2 : List UInt8 := dkwX54_unit_2 ++ []
def dkwX54_unit_1 : List UInt8 := [160, 0, 5, 3, 172, 42, 180, 0, 41, 42, 180, 0, 69, 27, 145, 84, 42, 89, 180, 0, 69, 4, 96]
abbrev dktX54_unit_1 : List UInt8 := dkwX54_unit_1 ++ dktX54_unit_2
def dkwX54_unit_0 : List UInt8 := [42, 3, 181, 0, 52, 27, 155, 0, 20, 27, 17, 0, 255, 163, 0, 13, 42, 180, 0, 69, 17, 7, 208]
abbrev dktX54_unit_0 : List UInt8 := dkwX54_unit_0 ++ dktX54_unit_1
theorem dksX54_unit_0 : cX54_unit.data.toList.drop 0 = dktX54_unit_0 := by decide +kernel
theorem dksX54_unit_1 : cX54_unit.data.toList.drop 23 = dktX54_unit_1 := dk_seg dksX54_unit_0 23 rfl rfl
theorem dksX54_unit_2 : cX54_unit.data.toList.drop 46 = dktX54_unit_2 := dk_seg dksX54_unit_1 23 rfl rfl
theorem dX54_unit_0 : decode cX54_unit 0 = .ok (.aload_n 0, 1) := dk_42 (dk_at dksX54_unit_0 0 rfl rfl)
theorem dX54_unit_1 : decode cX54_unit 1 = .ok (.iconst 0, 1) := dk_3 (dk_at dksX54_unit_0 1 rfl rfl)
theorem dX54_unit_2 : decode cX54_unit 2 = .ok (.putfield 52, 3) := dk_181 0 52 (dk_at dksX54_unit_0 2 rfl rfl)
theorem dX54_unit_5 : decode cX54_unit 5 = .ok (.iload_n 1, 1) := dk_27 (dk_at dksX54_unit_0 5 rfl rfl)
theorem dX54_unit_6 : decode cX54_unit 6 = .ok (.ifCond .lt 20, 3) := dk_155 0 20 (dk_at dksX54_unit_0 6 rfl rfl)
theorem dX54_unit_9 : decode cX54_unit 9 = .ok (.iload_n 1, 1) := dk_27 (dk_at dksX54_unit_0 9 rfl rfl)
theorem dX54_unit_10 : decode cX54_unit 10 = .ok (.sipush 255, 3) := dk_17 0 255 (dk_at dksX54_unit_0 10 rfl rfl)
theorem dX54_unit_13 : decode cX54_unit 13 = .ok (.if_icmp .gt 13, 3) := dk_163 0 13 (dk_at dksX54_unit_0 13 rfl rfl)
theorem dX54_unit_16 : decode cX54_unit 16 = .ok (.aload_n 0, 1) := dk_42 (dk_at dksX54_unit_0 16 rfl rfl)
theorem dX54_unit_17 : decode cX54_unit 17 = .ok (.getfield 69, 3) := dk_180 0 69 (dk_at dksX54_unit_0 17 rfl rfl)
theorem dX54_unit_20 : decode cX54_unit 20 = .ok (.sipush 2000, 3) := dk_17 7 208 (dk_at dksX54_unit_0 20 rfl rfl)
theorem dX54_unit_23 : decode cX54_unit 23 = .ok (.if_icmp .ne 5, 3) := dk_160 0 5 (dk_at dksX54_unit_1 0 rfl rfl)
theorem dX54_unit_26 : decode cX54_unit 26 = .ok (.iconst 0, 1) := dk_3 (dk_at dksX54_unit_1 3 rfl rfl)
theorem dX54_unit_27 : decode cX54_unit 27 = .ok (.ireturn, 1) := dk_172 (dk_at dksX54_unit_1 4 rfl rfl)
theorem dX54_unit_28 : decode cX54_unit 28 = .ok (.aload_n 0, 1) := dk_42 (dk_at dksX54_unit_1 5 rfl rfl)
theorem dX54_unit_29 : decode cX54_unit 29 = .ok (.getfield 41, 3) := dk_180 0 41 (dk_at dksX54_unit_1 6 rfl rfl)
theorem dX54_unit_32 : decode cX54_unit 32 = .ok (.aload_n 0, 1) := dk_42 (dk_at dksX54_unit_1 9 rfl rfl)
theorem dX54_unit_33 : decode cX54_unit 33 = .ok (.getfield 69, 3) := dk_180 0 69 (dk_at dksX54_unit_1 10 rfl rfl)
theorem dX54_unit_36 : decode cX54_unit 36 = .ok (.iload_n 1, 1) := dk_27 (dk_at dksX54_unit_1 13 rfl rfl)
theorem dX54_unit_37 : decode cX54_unit 37 = .ok (.i2b, 1) := dk_145 (dk_at dksX54_unit_1 14 rfl rfl)
theorem dX54_unit_38 : decode cX54_unit 38 = .ok (.bastore, 1) := dk_84 (dk_at dksX54_unit_1 15 rfl rfl)
theorem dX54_unit_39 : decode cX54_unit 39 = .ok (.aload_n 0, 1) := dk_42 (dk_at dksX54_unit_1 16 rfl rfl)
theorem dX54_unit_40 : decode cX54_unit 40 = .ok (.dup, 1) := dk_89 (dk_at dksX54_unit_1 17 rfl rfl)
theorem dX54_unit_41 : decode cX54_unit 41 = .ok (.getfield 69, 3) := dk_180 0 69 (dk_at dksX54_unit_1 18 rfl rfl)
theorem dX54_unit_44 : decode cX54_unit 44 = .ok (.iconst 1, 1) := dk_4 (dk_at dksX54_unit_1 21 rfl rfl)
theorem dX54_unit_45 : decode cX54_unit 45 = .ok (.iadd, 1) := dk_96 (dk_at dksX54_unit_1 22 rfl rfl)
theorem dX54_unit_46 : decode cX54_unit 46 = .ok (.putfield 69, 3) := dk_181 0 69 (dk_at dksX54_unit_2 0 rfl rfl)
theorem dX54_unit_49 : decode cX54_unit 49 = .ok (.iconst 1, 1) := dk_4 (dk_at dksX54_unit_2 3 rfl rfl)
theorem dX54_unit_50 : decode cX54_unit 50 = .ok (.ireturn, 1) := dk_172 (dk_at dksX54_unit_2 4 rfl rfl)
abbrev cX54_read : ByteArray := prog_61_method_19_code
def yX54_read : MethodName := ⟨RX54, "read", "()I"⟩
def dkwX54_read_3 : List UInt8 := [172]
abbrev dktX54_read_3 : List UInt8 := dkwX54_read_3 ++ []
def dkwX54_read_2 : List UInt8 := [181, 0, 69, 27, 154, 0, 10, 2, 42, 180, 0, 92, 100, 172, 42, 182, 0, 129, 42, 180, 0, 7, 3, 46]
abbrev dktX54_read_2 : List UInt8 := dkwX54_read_2 ++ dktX54_read_3
def dkwX54_read_1 : List UInt8 := [153, 0, 22, 42, 180, 0, 92, 42, 180, 0, 69, 162, 0, 11, 42, 182, 0, 125, 60, 167, 255, 236, 42, 3]
abbrev dktX54_read_1 : List UInt8 := dkwX54_read_1 ++ dktX54_read_2
def dkwX54_read_0 : List UInt8 := [42, 3, 181, 0, 52, 42, 4, 182, 0, 48, 42, 42, 3, 182, 0, 111, 181, 0, 92, 4, 60, 27]
abbrev dktX54_read_0 : List UInt8 := dkwX54_read_0 ++ dktX54_read_1
theorem dksX54_read_0 : cX54_read.data.toList.drop 0 = dktX54_read_0 := by decide +kernel
theorem dksX54_read_1 : cX54_read.data.toList.drop 22 = dktX54_read_1 := dk_seg dksX54_read_0 22 rfl rfl
theorem dksX54_read_2 : cX54_read.data.toList.drop 46 = dktX54_read_2 := dk_seg dksX54_read_1 24 rfl rfl
theorem dksX54_read_3 : cX54_read.data.toList.drop 70 = dktX54_read_3 := dk_seg dksX54_read_2 24 rfl rfl
theorem dX54_read_0 : decode cX54_read 0 = .ok (.aload_n 0, 1) := dk_42 (dk_at dksX54_read_0 0 rfl rfl)
theorem dX54_read_1 : decode cX54_read 1 = .ok (.iconst 0, 1) := dk_3 (dk_at dksX54_read_0 1 rfl rfl)
theorem dX54_read_2 : decode cX54_read 2 = .ok (.putfield 52, 3) := dk_181 0 52 (dk_at dksX54_read_0 2 rfl rfl)
theorem dX54_read_5 : decode cX54_read 5 = .ok (.aload_n 0, 1) := dk_42 (dk_at dksX54_read_0 5 rfl rfl)
theorem dX54_read_6 : decode cX54_read 6 = .ok (.iconst 1, 1) := dk_4 (dk_at dksX54_read_0 6 rfl rfl)
theorem dX54_read_7 : decode cX54_read 7 = .ok (.invokevirtual 48, 3) := dk_182 0 48 (dk_at dksX54_read_0 7 rfl rfl)
theorem dX54_read_10 : decode cX54_read 10 = .ok (.aload_n 0, 1) := dk_42 (dk_at dksX54_read_0 10 rfl rfl)
theorem dX54_read_11 : decode cX54_read 11 = .ok (.aload_n 0, 1) := dk_42 (dk_at dksX54_read_0 11 rfl rfl)
theorem dX54_read_12 : decode cX54_read 12 = .ok (.iconst 0, 1) := dk_3 (dk_at dksX54_read_0 12 rfl rfl)
theorem dX54_read_13 : decode cX54_read 13 = .ok (.invokevirtual 111, 3) := dk_182 0 111 (dk_at dksX54_read_0 13 rfl rfl)
theorem dX54_read_16 : decode cX54_read 16 = .ok (.putfield 92, 3) := dk_181 0 92 (dk_at dksX54_read_0 16 rfl rfl)
theorem dX54_read_19 : decode cX54_read 19 = .ok (.iconst 1, 1) := dk_4 (dk_at dksX54_read_0 19 rfl rfl)
theorem dX54_read_20 : decode cX54_read 20 = .ok (.istore_n 1, 1) := dk_60 (dk_at dksX54_read_0 20 rfl rfl)
theorem dX54_read_21 : decode cX54_read 21 = .ok (.iload_n 1, 1) := dk_27 (dk_at dksX54_read_0 21 rfl rfl)
theorem dX54_read_22 : decode cX54_read 22 = .ok (.ifCond .eq 22, 3) := dk_153 0 22 (dk_at dksX54_read_1 0 rfl rfl)
theorem dX54_read_25 : decode cX54_read 25 = .ok (.aload_n 0, 1) := dk_42 (dk_at dksX54_read_1 3 rfl rfl)
theorem dX54_read_26 : decode cX54_read 26 = .ok (.getfield 92, 3) := dk_180 0 92 (dk_at dksX54_read_1 4 rfl rfl)
theorem dX54_read_29 : decode cX54_read 29 = .ok (.aload_n 0, 1) := dk_42 (dk_at dksX54_read_1 7 rfl rfl)
theorem dX54_read_30 : decode cX54_read 30 = .ok (.getfield 69, 3) := dk_180 0 69 (dk_at dksX54_read_1 8 rfl rfl)
theorem dX54_read_33 : decode cX54_read 33 = .ok (.if_icmp .ge 11, 3) := dk_162 0 11 (dk_at dksX54_read_1 11 rfl rfl)
theorem dX54_read_36 : decode cX54_read 36 = .ok (.aload_n 0, 1) := dk_42 (dk_at dksX54_read_1 14 rfl rfl)
theorem dX54_read_37 : decode cX54_read 37 = .ok (.invokevirtual 125, 3) := dk_182 0 125 (dk_at dksX54_read_1 15 rfl rfl)
theorem dX54_read_40 : decode cX54_read 40 = .ok (.istore_n 1, 1) := dk_60 (dk_at dksX54_read_1 18 rfl rfl)
theorem dX54_read_41 : decode cX54_read 41 = .ok (.goto (-20), 3) := dk_167 255 236 (dk_at dksX54_read_1 19 rfl rfl)
theorem dX54_read_44 : decode cX54_read 44 = .ok (.aload_n 0, 1) := dk_42 (dk_at dksX54_read_1 22 rfl rfl)
theorem dX54_read_45 : decode cX54_read 45 = .ok (.iconst 0, 1) := dk_3 (dk_at dksX54_read_1 23 rfl rfl)
theorem dX54_read_46 : decode cX54_read 46 = .ok (.putfield 69, 3) := dk_181 0 69 (dk_at dksX54_read_2 0 rfl rfl)
theorem dX54_read_49 : decode cX54_read 49 = .ok (.iload_n 1, 1) := dk_27 (dk_at dksX54_read_2 3 rfl rfl)
theorem dX54_read_50 : decode cX54_read 50 = .ok (.ifCond .ne 10, 3) := dk_154 0 10 (dk_at dksX54_read_2 4 rfl rfl)
theorem dX54_read_53 : decode cX54_read 53 = .ok (.iconst (-1), 1) := dk_2 (dk_at dksX54_read_2 7 rfl rfl)
theorem dX54_read_54 : decode cX54_read 54 = .ok (.aload_n 0, 1) := dk_42 (dk_at dksX54_read_2 8 rfl rfl)
theorem dX54_read_55 : decode cX54_read 55 = .ok (.getfield 92, 3) := dk_180 0 92 (dk_at dksX54_read_2 9 rfl rfl)
theorem dX54_read_58 : decode cX54_read 58 = .ok (.isub, 1) := dk_100 (dk_at dksX54_read_2 12 rfl rfl)
theorem dX54_read_59 : decode cX54_read 59 = .ok (.ireturn, 1) := dk_172 (dk_at dksX54_read_2 13 rfl rfl)
theorem dX54_read_60 : decode cX54_read 60 = .ok (.aload_n 0, 1) := dk_42 (dk_at dksX54_read_2 14 rfl rfl)
theorem dX54_read_61 : decode cX54_read 61 = .ok (.invokevirtual 129, 3) := dk_182 0 129 (dk_at dksX54_read_2 15 rfl rfl)
theorem dX54_read_64 : decode cX54_read 64 = .ok (.aload_n 0, 1) := dk_42 (dk_at dksX54_read_2 18 rfl rfl)
theorem dX54_read_65 : decode cX54_read 65 = .ok (.getfield 7, 3) := dk_180 0 7 (dk_at dksX54_read_2 19 rfl rfl)
theorem dX54_read_68 : decode cX54_read 68 = .ok (.iconst 0, 1) := dk_3 (dk_at dksX54_read_2 22 rfl rfl)
theorem dX54_read_69 : decode cX54_read 69 = .ok (.iaload, 1) := dk_46 (dk_at dksX54_read_2 23 rfl rfl)
theorem dX54_read_70 : decode cX54_read 70 = .ok (.ireturn, 1) := dk_172 (dk_at dksX54_read_3 0 rfl rfl)
abbrev cX54_wordBegin : ByteArray := prog_61_method_13_code
def yX54_wordBegin : MethodName := ⟨RX54, "wordBegin", "(I)I"⟩
def dkwX54_wordBegin_1 : List UInt8 := [28, 172]
abbrev dktX54_wordBegin_1 : List UInt8 := dkwX54_wordBegin_1 ++ []
def dkwX54_wordBegin_0 : List UInt8 := [27, 61, 28, 42, 180, 0, 69, 162, 0, 17, 42, 28, 182, 0, 72, 153, 0, 9, 132, 2, 1, 167, 255, 237]
abbrev dktX54_wordBegin_0 : List UInt8 := dkwX54_wordBegin_0 ++ dktX54_wordBegin_1
theorem dksX54_wordBegin_0 : cX54_wordBegin.data.toList.drop 0 = dktX54_wordBegin_0 := by decide +kernel
theorem dksX54_wordBegin_1 : cX54_wordBegin.data.toList.drop 24 = dktX54_wordBegin_1 := dk_seg dksX54_wordBegin_0 24 rfl rfl
theorem dX54_wordBegin_0 : decode cX54_wordBegin 0 = .ok (.iload_n 1, 1) := dk_27 (dk_at dksX54_wordBegin_0 0 rfl rfl)
theorem dX54_wordBegin_1 : decode cX54_wordBegin 1 = .ok (.istore_n 2, 1) := dk_61 (dk_at dksX54_wordBegin_0 1 rfl rfl)
theorem dX54_wordBegin_2 : decode cX54_wordBegin 2 = .ok (.iload_n 2, 1) := dk_28 (dk_at dksX54_wordBegin_0 2 rfl rfl)
theorem dX54_wordBegin_3 : decode cX54_wordBegin 3 = .ok (.aload_n 0, 1) := dk_42 (dk_at dksX54_wordBegin_0 3 rfl rfl)
theorem dX54_wordBegin_4 : decode cX54_wordBegin 4 = .ok (.getfield 69, 3) := dk_180 0 69 (dk_at dksX54_wordBegin_0 4 rfl rfl)
theorem dX54_wordBegin_7 : decode cX54_wordBegin 7 = .ok (.if_icmp .ge 17, 3) := dk_162 0 17 (dk_at dksX54_wordBegin_0 7 rfl rfl)
theorem dX54_wordBegin_10 : decode cX54_wordBegin 10 = .ok (.aload_n 0, 1) := dk_42 (dk_at dksX54_wordBegin_0 10 rfl rfl)
theorem dX54_wordBegin_11 : decode cX54_wordBegin 11 = .ok (.iload_n 2, 1) := dk_28 (dk_at dksX54_wordBegin_0 11 rfl rfl)
theorem dX54_wordBegin_12 : decode cX54_wordBegin 12 = .ok (.invokevirtual 72, 3) := dk_182 0 72 (dk_at dksX54_wordBegin_0 12 rfl rfl)
theorem dX54_wordBegin_15 : decode cX54_wordBegin 15 = .ok (.ifCond .eq 9, 3) := dk_153 0 9 (dk_at dksX54_wordBegin_0 15 rfl rfl)
theorem dX54_wordBegin_18 : decode cX54_wordBegin 18 = .ok (.iinc 2 1, 3) := dk_132 2 1 (dk_at dksX54_wordBegin_0 18 rfl rfl)
theorem dX54_wordBegin_21 : decode cX54_wordBegin 21 = .ok (.goto (-19), 3) := dk_167 255 237 (dk_at dksX54_wordBegin_0 21 rfl rfl)
theorem dX54_wordBegin_24 : decode cX54_wordBegin 24 = .ok (.iload_n 2, 1) := dk_28 (dk_at dksX54_wordBegin_1 0 rfl rfl)
theorem dX54_wordBegin_25 : decode cX54_wordBegin 25 = .ok (.ireturn, 1) := dk_172 (dk_at dksX54_wordBegin_1 1 rfl rfl)
abbrev cX54_isGap : ByteArray := prog_61_method_12_code
def yX54_isGap : MethodName := ⟨RX54, "isGap", "(I)Z"⟩
def dkwX54_isGap_1 : List UInt8 := [167, 0, 4, 3, 172]
abbrev dktX54_isGap_1 : List UInt8 := dkwX54_isGap_1 ++ []
def dkwX54_isGap_0 : List UInt8 := [42, 180, 0, 41, 27, 51, 16, 32, 159, 0, 14, 42, 180, 0, 41, 27, 51, 16, 10, 160, 0, 7, 4]
abbrev dktX54_isGap_0 : List UInt8 := dkwX54_isGap_0 ++ dktX54_isGap_1
theorem dksX54_isGap_0 : cX54_isGap.data.toList.drop 0 = dktX54_isGap_0 := by decide +kernel
theorem dksX54_isGap_1 : cX54_isGap.data.toList.drop 23 = dktX54_isGap_1 := dk_seg dksX54_isGap_0 23 rfl rfl
theorem dX54_isGap_0 : decode cX54_isGap 0 = .ok (.aload_n 0, 1) := dk_42 (dk_at dksX54_isGap_0 0 rfl rfl)
theorem dX54_isGap_1 : decode cX54_isGap 1 = .ok (.getfield 41, 3) := dk_180 0 41 (dk_at dksX54_isGap_0 1 rfl rfl)
theorem dX54_isGap_4 : decode cX54_isGap 4 = .ok (.iload_n 1, 1) := dk_27 (dk_at dksX54_isGap_0 4 rfl rfl)
theorem dX54_isGap_5 : decode cX54_isGap 5 = .ok (.baload, 1) := dk_51 (dk_at dksX54_isGap_0 5 rfl rfl)
theorem dX54_isGap_6 : decode cX54_isGap 6 = .ok (.bipush 32, 2) := dk_16 32 (dk_at dksX54_isGap_0 6 rfl rfl)
theorem dX54_isGap_8 : decode cX54_isGap 8 = .ok (.if_icmp .eq 14, 3) := dk_159 0 14 (dk_at dksX54_isGap_0 8 rfl rfl)
theorem dX54_isGap_11 : decode cX54_isGap 11 = .ok (.aload_n 0, 1) := dk_42 (dk_at dksX54_isGap_0 11 rfl rfl)
theorem dX54_isGap_12 : decode cX54_isGap 12 = .ok (.getfield 41, 3) := dk_180 0 41 (dk_at dksX54_isGap_0 12 rfl rfl)
theorem dX54_isGap_15 : decode cX54_isGap 15 = .ok (.iload_n 1, 1) := dk_27 (dk_at dksX54_isGap_0 15 rfl rfl)
theorem dX54_isGap_16 : decode cX54_isGap 16 = .ok (.baload, 1) := dk_51 (dk_at dksX54_isGap_0 16 rfl rfl)
theorem dX54_isGap_17 : decode cX54_isGap 17 = .ok (.bipush 10, 2) := dk_16 10 (dk_at dksX54_isGap_0 17 rfl rfl)
theorem dX54_isGap_19 : decode cX54_isGap 19 = .ok (.if_icmp .ne 7, 3) := dk_160 0 7 (dk_at dksX54_isGap_0 19 rfl rfl)
theorem dX54_isGap_22 : decode cX54_isGap 22 = .ok (.iconst 1, 1) := dk_4 (dk_at dksX54_isGap_0 22 rfl rfl)
theorem dX54_isGap_23 : decode cX54_isGap 23 = .ok (.goto 4, 3) := dk_167 0 4 (dk_at dksX54_isGap_1 0 rfl rfl)
theorem dX54_isGap_26 : decode cX54_isGap 26 = .ok (.iconst 0, 1) := dk_3 (dk_at dksX54_isGap_1 3 rfl rfl)
theorem dX54_isGap_27 : decode cX54_isGap 27 = .ok (.ireturn, 1) := dk_172 (dk_at dksX54_isGap_1 4 rfl rfl)
abbrev cX54_readSentence : ByteArray := prog_61_method_18_code
def yX54_readSentence : MethodName := ⟨RX54, "readSentence", "()Z"⟩
def dkwX54_readSentence_9 : List UInt8 := [4, 172]
abbrev dktX54_readSentence_9 : List UInt8 := dkwX54_readSentence_9 ++ []
def dkwX54_readSentence_8 : List UInt8 := [4, 21, 4, 42, 180, 0, 45, 3, 46, 42, 180, 0, 45, 4, 46, 42, 180, 0, 45, 5, 46, 182, 0, 121]
abbrev dktX54_readSentence_8 : List UInt8 := dkwX54_readSentence_8 ++ dktX54_readSentence_9
def dkwX54_readSentence_7 : List UInt8 := [182, 0, 107, 154, 0, 5, 3, 172, 42, 42, 27, 182, 0, 111, 181, 0, 92, 132, 5, 1, 167, 255, 150, 42]
abbrev dktX54_readSentence_7 : List UInt8 := dkwX54_readSentence_7 ++ dktX54_readSentence_8
def dkwX54_readSentence_6 : List UInt8 := [21, 4, 21, 5, 4, 96, 42, 180, 0, 45, 3, 46, 42, 180, 0, 45, 4, 46, 42, 180, 0, 45, 5, 46]
abbrev dktX54_readSentence_6 : List UInt8 := dkwX54_readSentence_6 ++ dktX54_readSentence_7
def dkwX54_readSentence_5 : List UInt8 := [180, 0, 92, 27, 182, 0, 117, 167, 0, 4, 2, 79, 42, 180, 0, 45, 21, 5, 46, 155, 0, 35, 42, 4]
abbrev dktX54_readSentence_5 : List UInt8 := dkwX54_readSentence_5 ++ dktX54_readSentence_6
def dkwX54_readSentence_4 : List UInt8 := [182, 0, 95, 60, 42, 180, 0, 45, 21, 5, 42, 180, 0, 92, 42, 180, 0, 69, 162, 0, 15, 42, 42]
abbrev dktX54_readSentence_4 : List UInt8 := dkwX54_readSentence_4 ++ dktX54_readSentence_5
def dkwX54_readSentence_3 : List UInt8 := [182, 0, 111, 181, 0, 92, 3, 54, 5, 21, 5, 21, 4, 184, 0, 114, 162, 0, 102, 42, 42, 180, 0, 92]
abbrev dktX54_readSentence_3 : List UInt8 := dkwX54_readSentence_3 ++ dktX54_readSentence_4
def dkwX54_readSentence_2 : List UInt8 := [16, 7, 159, 0, 17, 42, 4, 21, 4, 3, 3, 3, 3, 182, 0, 107, 154, 0, 5, 3, 172, 42, 42, 27]
abbrev dktX54_readSentence_2 : List UInt8 := dkwX54_readSentence_2 ++ dktX54_readSentence_3
def dkwX54_readSentence_1 : List UInt8 := [16, 7, 162, 0, 19, 21, 4, 184, 0, 103, 32, 148, 153, 0, 9, 132, 4, 1, 167, 255, 236, 21, 4]
abbrev dktX54_readSentence_1 : List UInt8 := dkwX54_readSentence_1 ++ dktX54_readSentence_2
def dkwX54_readSentence_0 : List UInt8 := [42, 42, 180, 0, 92, 182, 0, 95, 60, 42, 42, 180, 0, 92, 27, 182, 0, 99, 65, 3, 54, 4, 21, 4]
abbrev dktX54_readSentence_0 : List UInt8 := dkwX54_readSentence_0 ++ dktX54_readSentence_1
theorem dksX54_readSentence_0 : cX54_readSentence.data.toList.drop 0 = dktX54_readSentence_0 := by decide +kernel
theorem dksX54_readSentence_1 : cX54_readSentence.data.toList.drop 24 = dktX54_readSentence_1 := dk_seg dksX54_readSentence_0 24 rfl rfl
theorem dksX54_readSentence_2 : cX54_readSentence.data.toList.drop 47 = dktX54_readSentence_2 := dk_seg dksX54_readSentence_1 23 rfl rfl
theorem dksX54_readSentence_3 : cX54_readSentence.data.toList.drop 71 = dktX54_readSentence_3 := dk_seg dksX54_readSentence_2 24 rfl rfl
theorem dksX54_readSentence_4 : cX54_readSentence.data.toList.drop 95 = dktX54_readSentence_4 := dk_seg dksX54_readSentence_3 24 rfl rfl
theorem dksX54_readSentence_5 : cX54_readSentence.data.toList.drop 118 = dktX54_readSentence_5 := dk_seg dksX54_readSentence_4 23 rfl rfl
theorem dksX54_readSentence_6 : cX54_readSentence.data.toList.drop 142 = dktX54_readSentence_6 := dk_seg dksX54_readSentence_5 24 rfl rfl
theorem dksX54_readSentence_7 : cX54_readSentence.data.toList.drop 166 = dktX54_readSentence_7 := dk_seg dksX54_readSentence_6 24 rfl rfl
theorem dksX54_readSentence_8 : cX54_readSentence.data.toList.drop 190 = dktX54_readSentence_8 := dk_seg dksX54_readSentence_7 24 rfl rfl
theorem dksX54_readSentence_9 : cX54_readSentence.data.toList.drop 214 = dktX54_readSentence_9 := dk_seg dksX54_readSentence_8 24 rfl rfl
theorem dX54_readSentence_0 : decode cX54_readSentence 0 = .ok (.aload_n 0, 1) := dk_42 (dk_at dksX54_readSentence_0 0 rfl rfl)
theorem dX54_readSentence_1 : decode cX54_readSentence 1 = .ok (.aload_n 0, 1) := dk_42 (dk_at dksX54_readSentence_0 1 rfl rfl)
theorem dX54_readSentence_2 : decode cX54_readSentence 2 = .ok (.getfield 92, 3) := dk_180 0 92 (dk_at dksX54_readSentence_0 2 rfl rfl)
theorem dX54_readSentence_5 : decode cX54_readSentence 5 = .ok (.invokevirtual 95, 3) := dk_182 0 95 (dk_at dksX54_readSentence_0 5 rfl rfl)
theorem dX54_readSentence_8 : decode cX54_readSentence 8 = .ok (.istore_n 1, 1) := dk_60 (dk_at dksX54_readSentence_0 8 rfl rfl)
theorem dX54_readSentence_9 : decode cX54_readSentence 9 = .ok (.aload_n 0, 1) := dk_42 (dk_at dksX54_readSentence_0 9 rfl rfl)
theorem dX54_readSentence_10 : decode cX54_readSentence 10 = .ok (.aload_n 0, 1) := dk_42 (dk_at dksX54_readSentence_0 10 rfl rfl)
theorem dX54_readSentence_11 : decode cX54_readSentence 11 = .ok (.getfield 92, 3) := dk_180 0 92 (dk_at dksX54_readSentence_0 11 rfl rfl)
theorem dX54_readSentence_14 : decode cX54_readSentence 14 = .ok (.iload_n 1, 1) := dk_27 (dk_at dksX54_readSentence_0 14 rfl rfl)
theorem dX54_readSentence_15 : decode cX54_readSentence 15 = .ok (.invokevirtual 99, 3) := dk_182 0 99 (dk_at dksX54_readSentence_0 15 rfl rfl)
theorem dX54_readSentence_18 : decode cX54_readSentence 18 = .ok (.lstore_n 2, 1) := dk_65 (dk_at dksX54_readSentence_0 18 rfl rfl)
theorem dX54_readSentence_19 : decode cX54_readSentence 19 = .ok (.iconst 0, 1) := dk_3 (dk_at dksX54_readSentence_0 19 rfl rfl)
theorem dX54_readSentence_20 : decode cX54_readSentence 20 = .ok (.istore 4, 2) := dk_54 4 (dk_at dksX54_readSentence_0 20 rfl rfl)
theorem dX54_readSentence_22 : decode cX54_readSentence 22 = .ok (.iload 4, 2) := dk_21 4 (dk_at dksX54_readSentence_0 22 rfl rfl)
theorem dX54_readSentence_24 : decode cX54_readSentence 24 = .ok (.bipush 7, 2) := dk_16 7 (dk_at dksX54_readSentence_1 0 rfl rfl)
theorem dX54_readSentence_26 : decode cX54_readSentence 26 = .ok (.if_icmp .ge 19, 3) := dk_162 0 19 (dk_at dksX54_readSentence_1 2 rfl rfl)
theorem dX54_readSentence_29 : decode cX54_readSentence 29 = .ok (.iload 4, 2) := dk_21 4 (dk_at dksX54_readSentence_1 5 rfl rfl)
theorem dX54_readSentence_31 : decode cX54_readSentence 31 = .ok (.invokestatic 103, 3) := dk_184 0 103 (dk_at dksX54_readSentence_1 7 rfl rfl)
theorem dX54_readSentence_34 : decode cX54_readSentence 34 = .ok (.lload_n 2, 1) := dk_32 (dk_at dksX54_readSentence_1 10 rfl rfl)
theorem dX54_readSentence_35 : decode cX54_readSentence 35 = .ok (.lcmp, 1) := dk_148 (dk_at dksX54_readSentence_1 11 rfl rfl)
theorem dX54_readSentence_36 : decode cX54_readSentence 36 = .ok (.ifCond .eq 9, 3) := dk_153 0 9 (dk_at dksX54_readSentence_1 12 rfl rfl)
theorem dX54_readSentence_39 : decode cX54_readSentence 39 = .ok (.iinc 4 1, 3) := dk_132 4 1 (dk_at dksX54_readSentence_1 15 rfl rfl)
theorem dX54_readSentence_42 : decode cX54_readSentence 42 = .ok (.goto (-20), 3) := dk_167 255 236 (dk_at dksX54_readSentence_1 18 rfl rfl)
theorem dX54_readSentence_45 : decode cX54_readSentence 45 = .ok (.iload 4, 2) := dk_21 4 (dk_at dksX54_readSentence_1 21 rfl rfl)
theorem dX54_readSentence_47 : decode cX54_readSentence 47 = .ok (.bipush 7, 2) := dk_16 7 (dk_at dksX54_readSentence_2 0 rfl rfl)
theorem dX54_readSentence_49 : decode cX54_readSentence 49 = .ok (.if_icmp .eq 17, 3) := dk_159 0 17 (dk_at dksX54_readSentence_2 2 rfl rfl)
theorem dX54_readSentence_52 : decode cX54_readSentence 52 = .ok (.aload_n 0, 1) := dk_42 (dk_at dksX54_readSentence_2 5 rfl rfl)
theorem dX54_readSentence_53 : decode cX54_readSentence 53 = .ok (.iconst 1, 1) := dk_4 (dk_at dksX54_readSentence_2 6 rfl rfl)
theorem dX54_readSentence_54 : decode cX54_readSentence 54 = .ok (.iload 4, 2) := dk_21 4 (dk_at dksX54_readSentence_2 7 rfl rfl)
theorem dX54_readSentence_56 : decode cX54_readSentence 56 = .ok (.iconst 0, 1) := dk_3 (dk_at dksX54_readSentence_2 9 rfl rfl)
theorem dX54_readSentence_57 : decode cX54_readSentence 57 = .ok (.iconst 0, 1) := dk_3 (dk_at dksX54_readSentence_2 10 rfl rfl)
theorem dX54_readSentence_58 : decode cX54_readSentence 58 = .ok (.iconst 0, 1) := dk_3 (dk_at dksX54_readSentence_2 11 rfl rfl)
theorem dX54_readSentence_59 : decode cX54_readSentence 59 = .ok (.iconst 0, 1) := dk_3 (dk_at dksX54_readSentence_2 12 rfl rfl)
theorem dX54_readSentence_60 : decode cX54_readSentence 60 = .ok (.invokevirtual 107, 3) := dk_182 0 107 (dk_at dksX54_readSentence_2 13 rfl rfl)
theorem dX54_readSentence_63 : decode cX54_readSentence 63 = .ok (.ifCond .ne 5, 3) := dk_154 0 5 (dk_at dksX54_readSentence_2 16 rfl rfl)
theorem dX54_readSentence_66 : decode cX54_readSentence 66 = .ok (.iconst 0, 1) := dk_3 (dk_at dksX54_readSentence_2 19 rfl rfl)
theorem dX54_readSentence_67 : decode cX54_readSentence 67 = .ok (.ireturn, 1) := dk_172 (dk_at dksX54_readSentence_2 20 rfl rfl)
theorem dX54_readSentence_68 : decode cX54_readSentence 68 = .ok (.aload_n 0, 1) := dk_42 (dk_at dksX54_readSentence_2 21 rfl rfl)
theorem dX54_readSentence_69 : decode cX54_readSentence 69 = .ok (.aload_n 0, 1) := dk_42 (dk_at dksX54_readSentence_2 22 rfl rfl)
theorem dX54_readSentence_70 : decode cX54_readSentence 70 = .ok (.iload_n 1, 1) := dk_27 (dk_at dksX54_readSentence_2 23 rfl rfl)
theorem dX54_readSentence_71 : decode cX54_readSentence 71 = .ok (.invokevirtual 111, 3) := dk_182 0 111 (dk_at dksX54_readSentence_3 0 rfl rfl)
theorem dX54_readSentence_74 : decode cX54_readSentence 74 = .ok (.putfield 92, 3) := dk_181 0 92 (dk_at dksX54_readSentence_3 3 rfl rfl)
theorem dX54_readSentence_77 : decode cX54_readSentence 77 = .ok (.iconst 0, 1) := dk_3 (dk_at dksX54_readSentence_3 6 rfl rfl)
theorem dX54_readSentence_78 : decode cX54_readSentence 78 = .ok (.istore 5, 2) := dk_54 5 (dk_at dksX54_readSentence_3 7 rfl rfl)
theorem dX54_readSentence_80 : decode cX54_readSentence 80 = .ok (.iload 5, 2) := dk_21 5 (dk_at dksX54_readSentence_3 9 rfl rfl)
theorem dX54_readSentence_82 : decode cX54_readSentence 82 = .ok (.iload 4, 2) := dk_21 4 (dk_at dksX54_readSentence_3 11 rfl rfl)
theorem dX54_readSentence_84 : decode cX54_readSentence 84 = .ok (.invokestatic 114, 3) := dk_184 0 114 (dk_at dksX54_readSentence_3 13 rfl rfl)
theorem dX54_readSentence_87 : decode cX54_readSentence 87 = .ok (.if_icmp .ge 102, 3) := dk_162 0 102 (dk_at dksX54_readSentence_3 16 rfl rfl)
theorem dX54_readSentence_90 : decode cX54_readSentence 90 = .ok (.aload_n 0, 1) := dk_42 (dk_at dksX54_readSentence_3 19 rfl rfl)
theorem dX54_readSentence_91 : decode cX54_readSentence 91 = .ok (.aload_n 0, 1) := dk_42 (dk_at dksX54_readSentence_3 20 rfl rfl)
theorem dX54_readSentence_92 : decode cX54_readSentence 92 = .ok (.getfield 92, 3) := dk_180 0 92 (dk_at dksX54_readSentence_3 21 rfl rfl)
theorem dX54_readSentence_95 : decode cX54_readSentence 95 = .ok (.invokevirtual 95, 3) := dk_182 0 95 (dk_at dksX54_readSentence_4 0 rfl rfl)
theorem dX54_readSentence_98 : decode cX54_readSentence 98 = .ok (.istore_n 1, 1) := dk_60 (dk_at dksX54_readSentence_4 3 rfl rfl)
theorem dX54_readSentence_99 : decode cX54_readSentence 99 = .ok (.aload_n 0, 1) := dk_42 (dk_at dksX54_readSentence_4 4 rfl rfl)
theorem dX54_readSentence_100 : decode cX54_readSentence 100 = .ok (.getfield 45, 3) := dk_180 0 45 (dk_at dksX54_readSentence_4 5 rfl rfl)
theorem dX54_readSentence_103 : decode cX54_readSentence 103 = .ok (.iload 5, 2) := dk_21 5 (dk_at dksX54_readSentence_4 8 rfl rfl)
theorem dX54_readSentence_105 : decode cX54_readSentence 105 = .ok (.aload_n 0, 1) := dk_42 (dk_at dksX54_readSentence_4 10 rfl rfl)
theorem dX54_readSentence_106 : decode cX54_readSentence 106 = .ok (.getfield 92, 3) := dk_180 0 92 (dk_at dksX54_readSentence_4 11 rfl rfl)
theorem dX54_readSentence_109 : decode cX54_readSentence 109 = .ok (.aload_n 0, 1) := dk_42 (dk_at dksX54_readSentence_4 14 rfl rfl)
theorem dX54_readSentence_110 : decode cX54_readSentence 110 = .ok (.getfield 69, 3) := dk_180 0 69 (dk_at dksX54_readSentence_4 15 rfl rfl)
theorem dX54_readSentence_113 : decode cX54_readSentence 113 = .ok (.if_icmp .ge 15, 3) := dk_162 0 15 (dk_at dksX54_readSentence_4 18 rfl rfl)
theorem dX54_readSentence_116 : decode cX54_readSentence 116 = .ok (.aload_n 0, 1) := dk_42 (dk_at dksX54_readSentence_4 21 rfl rfl)
theorem dX54_readSentence_117 : decode cX54_readSentence 117 = .ok (.aload_n 0, 1) := dk_42 (dk_at dksX54_readSentence_4 22 rfl rfl)
theorem dX54_readSentence_118 : decode cX54_readSentence 118 = .ok (.getfield 92, 3) := dk_180 0 92 (dk_at dksX54_readSentence_5 0 rfl rfl)
theorem dX54_readSentence_121 : decode cX54_readSentence 121 = .ok (.iload_n 1, 1) := dk_27 (dk_at dksX54_readSentence_5 3 rfl rfl)
theorem dX54_readSentence_122 : decode cX54_readSentence 122 = .ok (.invokevirtual 117, 3) := dk_182 0 117 (dk_at dksX54_readSentence_5 4 rfl rfl)
theorem dX54_readSentence_125 : decode cX54_readSentence 125 = .ok (.goto 4, 3) := dk_167 0 4 (dk_at dksX54_readSentence_5 7 rfl rfl)
theorem dX54_readSentence_128 : decode cX54_readSentence 128 = .ok (.iconst (-1), 1) := dk_2 (dk_at dksX54_readSentence_5 10 rfl rfl)
theorem dX54_readSentence_129 : decode cX54_readSentence 129 = .ok (.iastore, 1) := dk_79 (dk_at dksX54_readSentence_5 11 rfl rfl)
theorem dX54_readSentence_130 : decode cX54_readSentence 130 = .ok (.aload_n 0, 1) := dk_42 (dk_at dksX54_readSentence_5 12 rfl rfl)
theorem dX54_readSentence_131 : decode cX54_readSentence 131 = .ok (.getfield 45, 3) := dk_180 0 45 (dk_at dksX54_readSentence_5 13 rfl rfl)
theorem dX54_readSentence_134 : decode cX54_readSentence 134 = .ok (.iload 5, 2) := dk_21 5 (dk_at dksX54_readSentence_5 16 rfl rfl)
theorem dX54_readSentence_136 : decode cX54_readSentence 136 = .ok (.iaload, 1) := dk_46 (dk_at dksX54_readSentence_5 18 rfl rfl)
theorem dX54_readSentence_137 : decode cX54_readSentence 137 = .ok (.ifCond .lt 35, 3) := dk_155 0 35 (dk_at dksX54_readSentence_5 19 rfl rfl)
theorem dX54_readSentence_140 : decode cX54_readSentence 140 = .ok (.aload_n 0, 1) := dk_42 (dk_at dksX54_readSentence_5 22 rfl rfl)
theorem dX54_readSentence_141 : decode cX54_readSentence 141 = .ok (.iconst 1, 1) := dk_4 (dk_at dksX54_readSentence_5 23 rfl rfl)
theorem dX54_readSentence_142 : decode cX54_readSentence 142 = .ok (.iload 4, 2) := dk_21 4 (dk_at dksX54_readSentence_6 0 rfl rfl)
theorem dX54_readSentence_144 : decode cX54_readSentence 144 = .ok (.iload 5, 2) := dk_21 5 (dk_at dksX54_readSentence_6 2 rfl rfl)
theorem dX54_readSentence_146 : decode cX54_readSentence 146 = .ok (.iconst 1, 1) := dk_4 (dk_at dksX54_readSentence_6 4 rfl rfl)
theorem dX54_readSentence_147 : decode cX54_readSentence 147 = .ok (.iadd, 1) := dk_96 (dk_at dksX54_readSentence_6 5 rfl rfl)
theorem dX54_readSentence_148 : decode cX54_readSentence 148 = .ok (.aload_n 0, 1) := dk_42 (dk_at dksX54_readSentence_6 6 rfl rfl)
theorem dX54_readSentence_149 : decode cX54_readSentence 149 = .ok (.getfield 45, 3) := dk_180 0 45 (dk_at dksX54_readSentence_6 7 rfl rfl)
theorem dX54_readSentence_152 : decode cX54_readSentence 152 = .ok (.iconst 0, 1) := dk_3 (dk_at dksX54_readSentence_6 10 rfl rfl)
theorem dX54_readSentence_153 : decode cX54_readSentence 153 = .ok (.iaload, 1) := dk_46 (dk_at dksX54_readSentence_6 11 rfl rfl)
theorem dX54_readSentence_154 : decode cX54_readSentence 154 = .ok (.aload_n 0, 1) := dk_42 (dk_at dksX54_readSentence_6 12 rfl rfl)
theorem dX54_readSentence_155 : decode cX54_readSentence 155 = .ok (.getfield 45, 3) := dk_180 0 45 (dk_at dksX54_readSentence_6 13 rfl rfl)
theorem dX54_readSentence_158 : decode cX54_readSentence 158 = .ok (.iconst 1, 1) := dk_4 (dk_at dksX54_readSentence_6 16 rfl rfl)
theorem dX54_readSentence_159 : decode cX54_readSentence 159 = .ok (.iaload, 1) := dk_46 (dk_at dksX54_readSentence_6 17 rfl rfl)
theorem dX54_readSentence_160 : decode cX54_readSentence 160 = .ok (.aload_n 0, 1) := dk_42 (dk_at dksX54_readSentence_6 18 rfl rfl)
theorem dX54_readSentence_161 : decode cX54_readSentence 161 = .ok (.getfield 45, 3) := dk_180 0 45 (dk_at dksX54_readSentence_6 19 rfl rfl)
theorem dX54_readSentence_164 : decode cX54_readSentence 164 = .ok (.iconst 2, 1) := dk_5 (dk_at dksX54_readSentence_6 22 rfl rfl)
theorem dX54_readSentence_165 : decode cX54_readSentence 165 = .ok (.iaload, 1) := dk_46 (dk_at dksX54_readSentence_6 23 rfl rfl)
theorem dX54_readSentence_166 : decode cX54_readSentence 166 = .ok (.invokevirtual 107, 3) := dk_182 0 107 (dk_at dksX54_readSentence_7 0 rfl rfl)
theorem dX54_readSentence_169 : decode cX54_readSentence 169 = .ok (.ifCond .ne 5, 3) := dk_154 0 5 (dk_at dksX54_readSentence_7 3 rfl rfl)
theorem dX54_readSentence_172 : decode cX54_readSentence 172 = .ok (.iconst 0, 1) := dk_3 (dk_at dksX54_readSentence_7 6 rfl rfl)
theorem dX54_readSentence_173 : decode cX54_readSentence 173 = .ok (.ireturn, 1) := dk_172 (dk_at dksX54_readSentence_7 7 rfl rfl)
theorem dX54_readSentence_174 : decode cX54_readSentence 174 = .ok (.aload_n 0, 1) := dk_42 (dk_at dksX54_readSentence_7 8 rfl rfl)
theorem dX54_readSentence_175 : decode cX54_readSentence 175 = .ok (.aload_n 0, 1) := dk_42 (dk_at dksX54_readSentence_7 9 rfl rfl)
theorem dX54_readSentence_176 : decode cX54_readSentence 176 = .ok (.iload_n 1, 1) := dk_27 (dk_at dksX54_readSentence_7 10 rfl rfl)
theorem dX54_readSentence_177 : decode cX54_readSentence 177 = .ok (.invokevirtual 111, 3) := dk_182 0 111 (dk_at dksX54_readSentence_7 11 rfl rfl)
theorem dX54_readSentence_180 : decode cX54_readSentence 180 = .ok (.putfield 92, 3) := dk_181 0 92 (dk_at dksX54_readSentence_7 14 rfl rfl)
theorem dX54_readSentence_183 : decode cX54_readSentence 183 = .ok (.iinc 5 1, 3) := dk_132 5 1 (dk_at dksX54_readSentence_7 17 rfl rfl)
theorem dX54_readSentence_186 : decode cX54_readSentence 186 = .ok (.goto (-106), 3) := dk_167 255 150 (dk_at dksX54_readSentence_7 20 rfl rfl)
theorem dX54_readSentence_189 : decode cX54_readSentence 189 = .ok (.aload_n 0, 1) := dk_42 (dk_at dksX54_readSentence_7 23 rfl rfl)
theorem dX54_readSentence_190 : decode cX54_readSentence 190 = .ok (.iconst 1, 1) := dk_4 (dk_at dksX54_readSentence_8 0 rfl rfl)
theorem dX54_readSentence_191 : decode cX54_readSentence 191 = .ok (.iload 4, 2) := dk_21 4 (dk_at dksX54_readSentence_8 1 rfl rfl)
theorem dX54_readSentence_193 : decode cX54_readSentence 193 = .ok (.aload_n 0, 1) := dk_42 (dk_at dksX54_readSentence_8 3 rfl rfl)
theorem dX54_readSentence_194 : decode cX54_readSentence 194 = .ok (.getfield 45, 3) := dk_180 0 45 (dk_at dksX54_readSentence_8 4 rfl rfl)
theorem dX54_readSentence_197 : decode cX54_readSentence 197 = .ok (.iconst 0, 1) := dk_3 (dk_at dksX54_readSentence_8 7 rfl rfl)
theorem dX54_readSentence_198 : decode cX54_readSentence 198 = .ok (.iaload, 1) := dk_46 (dk_at dksX54_readSentence_8 8 rfl rfl)
theorem dX54_readSentence_199 : decode cX54_readSentence 199 = .ok (.aload_n 0, 1) := dk_42 (dk_at dksX54_readSentence_8 9 rfl rfl)
theorem dX54_readSentence_200 : decode cX54_readSentence 200 = .ok (.getfield 45, 3) := dk_180 0 45 (dk_at dksX54_readSentence_8 10 rfl rfl)
theorem dX54_readSentence_203 : decode cX54_readSentence 203 = .ok (.iconst 1, 1) := dk_4 (dk_at dksX54_readSentence_8 13 rfl rfl)
theorem dX54_readSentence_204 : decode cX54_readSentence 204 = .ok (.iaload, 1) := dk_46 (dk_at dksX54_readSentence_8 14 rfl rfl)
theorem dX54_readSentence_205 : decode cX54_readSentence 205 = .ok (.aload_n 0, 1) := dk_42 (dk_at dksX54_readSentence_8 15 rfl rfl)
theorem dX54_readSentence_206 : decode cX54_readSentence 206 = .ok (.getfield 45, 3) := dk_180 0 45 (dk_at dksX54_readSentence_8 16 rfl rfl)
theorem dX54_readSentence_209 : decode cX54_readSentence 209 = .ok (.iconst 2, 1) := dk_5 (dk_at dksX54_readSentence_8 19 rfl rfl)
theorem dX54_readSentence_210 : decode cX54_readSentence 210 = .ok (.iaload, 1) := dk_46 (dk_at dksX54_readSentence_8 20 rfl rfl)
theorem dX54_readSentence_211 : decode cX54_readSentence 211 = .ok (.invokevirtual 121, 3) := dk_182 0 121 (dk_at dksX54_readSentence_8 21 rfl rfl)
theorem dX54_readSentence_214 : decode cX54_readSentence 214 = .ok (.iconst 1, 1) := dk_4 (dk_at dksX54_readSentence_9 0 rfl rfl)
theorem dX54_readSentence_215 : decode cX54_readSentence 215 = .ok (.ireturn, 1) := dk_172 (dk_at dksX54_readSentence_9 1 rfl rfl)
abbrev cX54_wordEnd : ByteArray := prog_61_method_14_code
def yX54_wordEnd : MethodName := ⟨RX54, "wordEnd", "(I)I"⟩
def dkwX54_wordEnd_1 : List UInt8 := [28, 172]
abbrev dktX54_wordEnd_1 : List UInt8 := dkwX54_wordEnd_1 ++ []
def dkwX54_wordEnd_0 : List UInt8 := [27, 61, 28, 42, 180, 0, 69, 162, 0, 17, 42, 28, 182, 0, 72, 154, 0, 9, 132, 2, 1, 167, 255, 237]
abbrev dktX54_wordEnd_0 : List UInt8 := dkwX54_wordEnd_0 ++ dktX54_wordEnd_1
theorem dksX54_wordEnd_0 : cX54_wordEnd.data.toList.drop 0 = dktX54_wordEnd_0 := by decide +kernel
theorem dksX54_wordEnd_1 : cX54_wordEnd.data.toList.drop 24 = dktX54_wordEnd_1 := dk_seg dksX54_wordEnd_0 24 rfl rfl
theorem dX54_wordEnd_0 : decode cX54_wordEnd 0 = .ok (.iload_n 1, 1) := dk_27 (dk_at dksX54_wordEnd_0 0 rfl rfl)
theorem dX54_wordEnd_1 : decode cX54_wordEnd 1 = .ok (.istore_n 2, 1) := dk_61 (dk_at dksX54_wordEnd_0 1 rfl rfl)
theorem dX54_wordEnd_2 : decode cX54_wordEnd 2 = .ok (.iload_n 2, 1) := dk_28 (dk_at dksX54_wordEnd_0 2 rfl rfl)
theorem dX54_wordEnd_3 : decode cX54_wordEnd 3 = .ok (.aload_n 0, 1) := dk_42 (dk_at dksX54_wordEnd_0 3 rfl rfl)
theorem dX54_wordEnd_4 : decode cX54_wordEnd 4 = .ok (.getfield 69, 3) := dk_180 0 69 (dk_at dksX54_wordEnd_0 4 rfl rfl)
theorem dX54_wordEnd_7 : decode cX54_wordEnd 7 = .ok (.if_icmp .ge 17, 3) := dk_162 0 17 (dk_at dksX54_wordEnd_0 7 rfl rfl)
theorem dX54_wordEnd_10 : decode cX54_wordEnd 10 = .ok (.aload_n 0, 1) := dk_42 (dk_at dksX54_wordEnd_0 10 rfl rfl)
theorem dX54_wordEnd_11 : decode cX54_wordEnd 11 = .ok (.iload_n 2, 1) := dk_28 (dk_at dksX54_wordEnd_0 11 rfl rfl)
theorem dX54_wordEnd_12 : decode cX54_wordEnd 12 = .ok (.invokevirtual 72, 3) := dk_182 0 72 (dk_at dksX54_wordEnd_0 12 rfl rfl)
theorem dX54_wordEnd_15 : decode cX54_wordEnd 15 = .ok (.ifCond .ne 9, 3) := dk_154 0 9 (dk_at dksX54_wordEnd_0 15 rfl rfl)
theorem dX54_wordEnd_18 : decode cX54_wordEnd 18 = .ok (.iinc 2 1, 3) := dk_132 2 1 (dk_at dksX54_wordEnd_0 18 rfl rfl)
theorem dX54_wordEnd_21 : decode cX54_wordEnd 21 = .ok (.goto (-19), 3) := dk_167 255 237 (dk_at dksX54_wordEnd_0 21 rfl rfl)
theorem dX54_wordEnd_24 : decode cX54_wordEnd 24 = .ok (.iload_n 2, 1) := dk_28 (dk_at dksX54_wordEnd_1 0 rfl rfl)
theorem dX54_wordEnd_25 : decode cX54_wordEnd 25 = .ok (.ireturn, 1) := dk_172 (dk_at dksX54_wordEnd_1 1 rfl rfl)
abbrev cX54_wordOf : ByteArray := prog_61_method_15_code
def yX54_wordOf : MethodName := ⟨RX54, "wordOf", "(II)J"⟩
def dkwX54_wordOf_1 : List UInt8 := [42, 180, 0, 41, 21, 5, 51, 17, 0, 255, 126, 133, 97, 66, 132, 5, 1, 167, 255, 220, 33, 173]
abbrev dktX54_wordOf_1 : List UInt8 := dkwX54_wordOf_1 ++ []
def dkwX54_wordOf_0 : List UInt8 := [10, 66, 27, 54, 5, 21, 5, 28, 162, 0, 36, 28, 27, 100, 16, 8, 162, 0, 28, 20, 0, 76, 33, 105]
abbrev dktX54_wordOf_0 : List UInt8 := dkwX54_wordOf_0 ++ dktX54_wordOf_1
theorem dksX54_wordOf_0 : cX54_wordOf.data.toList.drop 0 = dktX54_wordOf_0 := by decide +kernel
theorem dksX54_wordOf_1 : cX54_wordOf.data.toList.drop 24 = dktX54_wordOf_1 := dk_seg dksX54_wordOf_0 24 rfl rfl
theorem dX54_wordOf_0 : decode cX54_wordOf 0 = .ok (.lconst 1, 1) := dk_10 (dk_at dksX54_wordOf_0 0 rfl rfl)
theorem dX54_wordOf_1 : decode cX54_wordOf 1 = .ok (.lstore_n 3, 1) := dk_66 (dk_at dksX54_wordOf_0 1 rfl rfl)
theorem dX54_wordOf_2 : decode cX54_wordOf 2 = .ok (.iload_n 1, 1) := dk_27 (dk_at dksX54_wordOf_0 2 rfl rfl)
theorem dX54_wordOf_3 : decode cX54_wordOf 3 = .ok (.istore 5, 2) := dk_54 5 (dk_at dksX54_wordOf_0 3 rfl rfl)
theorem dX54_wordOf_5 : decode cX54_wordOf 5 = .ok (.iload 5, 2) := dk_21 5 (dk_at dksX54_wordOf_0 5 rfl rfl)
theorem dX54_wordOf_7 : decode cX54_wordOf 7 = .ok (.iload_n 2, 1) := dk_28 (dk_at dksX54_wordOf_0 7 rfl rfl)
theorem dX54_wordOf_8 : decode cX54_wordOf 8 = .ok (.if_icmp .ge 36, 3) := dk_162 0 36 (dk_at dksX54_wordOf_0 8 rfl rfl)
theorem dX54_wordOf_11 : decode cX54_wordOf 11 = .ok (.iload_n 2, 1) := dk_28 (dk_at dksX54_wordOf_0 11 rfl rfl)
theorem dX54_wordOf_12 : decode cX54_wordOf 12 = .ok (.iload_n 1, 1) := dk_27 (dk_at dksX54_wordOf_0 12 rfl rfl)
theorem dX54_wordOf_13 : decode cX54_wordOf 13 = .ok (.isub, 1) := dk_100 (dk_at dksX54_wordOf_0 13 rfl rfl)
theorem dX54_wordOf_14 : decode cX54_wordOf 14 = .ok (.bipush 8, 2) := dk_16 8 (dk_at dksX54_wordOf_0 14 rfl rfl)
theorem dX54_wordOf_16 : decode cX54_wordOf 16 = .ok (.if_icmp .ge 28, 3) := dk_162 0 28 (dk_at dksX54_wordOf_0 16 rfl rfl)
theorem dX54_wordOf_19 : decode cX54_wordOf 19 = .ok (.ldc2_w 76, 3) := dk_20 0 76 (dk_at dksX54_wordOf_0 19 rfl rfl)
theorem dX54_wordOf_22 : decode cX54_wordOf 22 = .ok (.lload_n 3, 1) := dk_33 (dk_at dksX54_wordOf_0 22 rfl rfl)
theorem dX54_wordOf_23 : decode cX54_wordOf 23 = .ok (.lmul, 1) := dk_105 (dk_at dksX54_wordOf_0 23 rfl rfl)
theorem dX54_wordOf_24 : decode cX54_wordOf 24 = .ok (.aload_n 0, 1) := dk_42 (dk_at dksX54_wordOf_1 0 rfl rfl)
theorem dX54_wordOf_25 : decode cX54_wordOf 25 = .ok (.getfield 41, 3) := dk_180 0 41 (dk_at dksX54_wordOf_1 1 rfl rfl)
theorem dX54_wordOf_28 : decode cX54_wordOf 28 = .ok (.iload 5, 2) := dk_21 5 (dk_at dksX54_wordOf_1 4 rfl rfl)
theorem dX54_wordOf_30 : decode cX54_wordOf 30 = .ok (.baload, 1) := dk_51 (dk_at dksX54_wordOf_1 6 rfl rfl)
theorem dX54_wordOf_31 : decode cX54_wordOf 31 = .ok (.sipush 255, 3) := dk_17 0 255 (dk_at dksX54_wordOf_1 7 rfl rfl)
theorem dX54_wordOf_34 : decode cX54_wordOf 34 = .ok (.iand, 1) := dk_126 (dk_at dksX54_wordOf_1 10 rfl rfl)
theorem dX54_wordOf_35 : decode cX54_wordOf 35 = .ok (.i2l, 1) := dk_133 (dk_at dksX54_wordOf_1 11 rfl rfl)
theorem dX54_wordOf_36 : decode cX54_wordOf 36 = .ok (.ladd, 1) := dk_97 (dk_at dksX54_wordOf_1 12 rfl rfl)
theorem dX54_wordOf_37 : decode cX54_wordOf 37 = .ok (.lstore_n 3, 1) := dk_66 (dk_at dksX54_wordOf_1 13 rfl rfl)
theorem dX54_wordOf_38 : decode cX54_wordOf 38 = .ok (.iinc 5 1, 3) := dk_132 5 1 (dk_at dksX54_wordOf_1 14 rfl rfl)
theorem dX54_wordOf_41 : decode cX54_wordOf 41 = .ok (.goto (-36), 3) := dk_167 255 220 (dk_at dksX54_wordOf_1 17 rfl rfl)
theorem dX54_wordOf_44 : decode cX54_wordOf 44 = .ok (.lload_n 3, 1) := dk_33 (dk_at dksX54_wordOf_1 20 rfl rfl)
theorem dX54_wordOf_45 : decode cX54_wordOf 45 = .ok (.lreturn, 1) := dk_173 (dk_at dksX54_wordOf_1 21 rfl rfl)
abbrev cX54_nameOf : ByteArray := prog_61_method_17_code
def yX54_nameOf : MethodName := ⟨RX54, "nameOf", "(I)J"⟩
def dkwX54_nameOf_3 : List UInt8 := [20, 0, 90, 173]
abbrev dktX54_nameOf_3 : List UInt8 := dkwX54_nameOf_3 ++ []
def dkwX54_nameOf_2 : List UInt8 := [20, 0, 78, 173, 20, 0, 80, 173, 20, 0, 82, 173, 20, 0, 84, 173, 20, 0, 86, 173, 20, 0, 88, 173]
abbrev dktX54_nameOf_2 : List UInt8 := dkwX54_nameOf_2 ++ dktX54_nameOf_3
def dkwX54_nameOf_1 : List UInt8 := [170, 0, 0, 0, 0, 0, 63, 0, 0, 0, 0, 0, 0, 0, 5, 0, 0, 0, 39, 0, 0, 0, 43, 0, 0, 0, 47, 0, 0, 0, 51, 0, 0, 0, 55, 0, 0, 0, 59]
abbrev dktX54_nameOf_1 : List UInt8 := dkwX54_nameOf_1 ++ dktX54_nameOf_2
def dkwX54_nameOf_0 : List UInt8 := [26]
abbrev dktX54_nameOf_0 : List UInt8 := dkwX54_nameOf_0 ++ dktX54_nameOf_1
theorem dksX54_nameOf_0 : cX54_nameOf.data.toList.drop 0 = dktX54_nameOf_0 := by decide +kernel
theorem dksX54_nameOf_1 : cX54_nameOf.data.toList.drop 1 = dktX54_nameOf_1 := dk_seg dksX54_nameOf_0 1 rfl rfl
theorem dksX54_nameOf_2 : cX54_nameOf.data.toList.drop 40 = dktX54_nameOf_2 := dk_seg dksX54_nameOf_1 39 rfl rfl
theorem dksX54_nameOf_3 : cX54_nameOf.data.toList.drop 64 = dktX54_nameOf_3 := dk_seg dksX54_nameOf_2 24 rfl rfl
theorem dX54_nameOf_0 : decode cX54_nameOf 0 = .ok (.iload_n 0, 1) := dk_26 (dk_at dksX54_nameOf_0 0 rfl rfl)
theorem dX54_nameOf_1 : decode cX54_nameOf 1 = .ok (.tableswitch 63 0 5 #[39, 43, 47, 51, 55, 59], 39) := by decide +kernel
theorem dX54_nameOf_40 : decode cX54_nameOf 40 = .ok (.ldc2_w 78, 3) := dk_20 0 78 (dk_at dksX54_nameOf_2 0 rfl rfl)
theorem dX54_nameOf_43 : decode cX54_nameOf 43 = .ok (.lreturn, 1) := dk_173 (dk_at dksX54_nameOf_2 3 rfl rfl)
theorem dX54_nameOf_44 : decode cX54_nameOf 44 = .ok (.ldc2_w 80, 3) := dk_20 0 80 (dk_at dksX54_nameOf_2 4 rfl rfl)
theorem dX54_nameOf_47 : decode cX54_nameOf 47 = .ok (.lreturn, 1) := dk_173 (dk_at dksX54_nameOf_2 7 rfl rfl)
theorem dX54_nameOf_48 : decode cX54_nameOf 48 = .ok (.ldc2_w 82, 3) := dk_20 0 82 (dk_at dksX54_nameOf_2 8 rfl rfl)
theorem dX54_nameOf_51 : decode cX54_nameOf 51 = .ok (.lreturn, 1) := dk_173 (dk_at dksX54_nameOf_2 11 rfl rfl)
theorem dX54_nameOf_52 : decode cX54_nameOf 52 = .ok (.ldc2_w 84, 3) := dk_20 0 84 (dk_at dksX54_nameOf_2 12 rfl rfl)
theorem dX54_nameOf_55 : decode cX54_nameOf 55 = .ok (.lreturn, 1) := dk_173 (dk_at dksX54_nameOf_2 15 rfl rfl)
theorem dX54_nameOf_56 : decode cX54_nameOf 56 = .ok (.ldc2_w 86, 3) := dk_20 0 86 (dk_at dksX54_nameOf_2 16 rfl rfl)
theorem dX54_nameOf_59 : decode cX54_nameOf 59 = .ok (.lreturn, 1) := dk_173 (dk_at dksX54_nameOf_2 19 rfl rfl)
theorem dX54_nameOf_60 : decode cX54_nameOf 60 = .ok (.ldc2_w 88, 3) := dk_20 0 88 (dk_at dksX54_nameOf_2 20 rfl rfl)
theorem dX54_nameOf_63 : decode cX54_nameOf 63 = .ok (.lreturn, 1) := dk_173 (dk_at dksX54_nameOf_2 23 rfl rfl)
theorem dX54_nameOf_64 : decode cX54_nameOf 64 = .ok (.ldc2_w 90, 3) := dk_20 0 90 (dk_at dksX54_nameOf_3 0 rfl rfl)
theorem dX54_nameOf_67 : decode cX54_nameOf 67 = .ok (.lreturn, 1) := dk_173 (dk_at dksX54_nameOf_3 3 rfl rfl)
abbrev cX54_canBe : ByteArray := prog_61_method_10_code
def yX54_canBe : MethodName := ⟨RX54, "canBe", "(IIIIII)Z"⟩
def dkwX54_canBe_4 : List UInt8 := [167, 255, 168, 3, 172]
abbrev dktX54_canBe_4 : List UInt8 := dkwX54_canBe_4 ++ []
def dkwX54_canBe_3 : List UInt8 := [182, 0, 65, 153, 0, 5, 4, 172, 132, 9, 1, 167, 255, 200, 132, 8, 1, 167, 255, 184, 132, 7, 1]
abbrev dktX54_canBe_3 : List UInt8 := dkwX54_canBe_3 ++ dktX54_canBe_4
def dkwX54_canBe_2 : List UInt8 := [164, 0, 8, 21, 5, 167, 0, 5, 21, 8, 29, 5, 164, 0, 8, 21, 6, 167, 0, 5, 21, 9]
abbrev dktX54_canBe_2 : List UInt8 := dkwX54_canBe_2 ++ dktX54_canBe_3
def dkwX54_canBe_1 : List UInt8 := [21, 9, 16, 10, 162, 0, 55, 42, 27, 28, 29, 158, 0, 8, 21, 4, 167, 0, 5, 21, 7, 29, 4]
abbrev dktX54_canBe_1 : List UInt8 := dkwX54_canBe_1 ++ dktX54_canBe_2
def dkwX54_canBe_0 : List UInt8 := [3, 54, 7, 21, 7, 16, 10, 162, 0, 87, 3, 54, 8, 21, 8, 16, 10, 162, 0, 71, 3, 54, 9]
abbrev dktX54_canBe_0 : List UInt8 := dkwX54_canBe_0 ++ dktX54_canBe_1
theorem dksX54_canBe_0 : cX54_canBe.data.toList.drop 0 = dktX54_canBe_0 := by decide +kernel
theorem dksX54_canBe_1 : cX54_canBe.data.toList.drop 23 = dktX54_canBe_1 := dk_seg dksX54_canBe_0 23 rfl rfl
theorem dksX54_canBe_2 : cX54_canBe.data.toList.drop 46 = dktX54_canBe_2 := dk_seg dksX54_canBe_1 23 rfl rfl
theorem dksX54_canBe_3 : cX54_canBe.data.toList.drop 68 = dktX54_canBe_3 := dk_seg dksX54_canBe_2 22 rfl rfl
theorem dksX54_canBe_4 : cX54_canBe.data.toList.drop 91 = dktX54_canBe_4 := dk_seg dksX54_canBe_3 23 rfl rfl
theorem dX54_canBe_0 : decode cX54_canBe 0 = .ok (.iconst 0, 1) := dk_3 (dk_at dksX54_canBe_0 0 rfl rfl)
theorem dX54_canBe_1 : decode cX54_canBe 1 = .ok (.istore 7, 2) := dk_54 7 (dk_at dksX54_canBe_0 1 rfl rfl)
theorem dX54_canBe_3 : decode cX54_canBe 3 = .ok (.iload 7, 2) := dk_21 7 (dk_at dksX54_canBe_0 3 rfl rfl)
theorem dX54_canBe_5 : decode cX54_canBe 5 = .ok (.bipush 10, 2) := dk_16 10 (dk_at dksX54_canBe_0 5 rfl rfl)
theorem dX54_canBe_7 : decode cX54_canBe 7 = .ok (.if_icmp .ge 87, 3) := dk_162 0 87 (dk_at dksX54_canBe_0 7 rfl rfl)
theorem dX54_canBe_10 : decode cX54_canBe 10 = .ok (.iconst 0, 1) := dk_3 (dk_at dksX54_canBe_0 10 rfl rfl)
theorem dX54_canBe_11 : decode cX54_canBe 11 = .ok (.istore 8, 2) := dk_54 8 (dk_at dksX54_canBe_0 11 rfl rfl)
theorem dX54_canBe_13 : decode cX54_canBe 13 = .ok (.iload 8, 2) := dk_21 8 (dk_at dksX54_canBe_0 13 rfl rfl)
theorem dX54_canBe_15 : decode cX54_canBe 15 = .ok (.bipush 10, 2) := dk_16 10 (dk_at dksX54_canBe_0 15 rfl rfl)
theorem dX54_canBe_17 : decode cX54_canBe 17 = .ok (.if_icmp .ge 71, 3) := dk_162 0 71 (dk_at dksX54_canBe_0 17 rfl rfl)
theorem dX54_canBe_20 : decode cX54_canBe 20 = .ok (.iconst 0, 1) := dk_3 (dk_at dksX54_canBe_0 20 rfl rfl)
theorem dX54_canBe_21 : decode cX54_canBe 21 = .ok (.istore 9, 2) := dk_54 9 (dk_at dksX54_canBe_0 21 rfl rfl)
theorem dX54_canBe_23 : decode cX54_canBe 23 = .ok (.iload 9, 2) := dk_21 9 (dk_at dksX54_canBe_1 0 rfl rfl)
theorem dX54_canBe_25 : decode cX54_canBe 25 = .ok (.bipush 10, 2) := dk_16 10 (dk_at dksX54_canBe_1 2 rfl rfl)
theorem dX54_canBe_27 : decode cX54_canBe 27 = .ok (.if_icmp .ge 55, 3) := dk_162 0 55 (dk_at dksX54_canBe_1 4 rfl rfl)
theorem dX54_canBe_30 : decode cX54_canBe 30 = .ok (.aload_n 0, 1) := dk_42 (dk_at dksX54_canBe_1 7 rfl rfl)
theorem dX54_canBe_31 : decode cX54_canBe 31 = .ok (.iload_n 1, 1) := dk_27 (dk_at dksX54_canBe_1 8 rfl rfl)
theorem dX54_canBe_32 : decode cX54_canBe 32 = .ok (.iload_n 2, 1) := dk_28 (dk_at dksX54_canBe_1 9 rfl rfl)
theorem dX54_canBe_33 : decode cX54_canBe 33 = .ok (.iload_n 3, 1) := dk_29 (dk_at dksX54_canBe_1 10 rfl rfl)
theorem dX54_canBe_34 : decode cX54_canBe 34 = .ok (.ifCond .le 8, 3) := dk_158 0 8 (dk_at dksX54_canBe_1 11 rfl rfl)
theorem dX54_canBe_37 : decode cX54_canBe 37 = .ok (.iload 4, 2) := dk_21 4 (dk_at dksX54_canBe_1 14 rfl rfl)
theorem dX54_canBe_39 : decode cX54_canBe 39 = .ok (.goto 5, 3) := dk_167 0 5 (dk_at dksX54_canBe_1 16 rfl rfl)
theorem dX54_canBe_42 : decode cX54_canBe 42 = .ok (.iload 7, 2) := dk_21 7 (dk_at dksX54_canBe_1 19 rfl rfl)
theorem dX54_canBe_44 : decode cX54_canBe 44 = .ok (.iload_n 3, 1) := dk_29 (dk_at dksX54_canBe_1 21 rfl rfl)
theorem dX54_canBe_45 : decode cX54_canBe 45 = .ok (.iconst 1, 1) := dk_4 (dk_at dksX54_canBe_1 22 rfl rfl)
theorem dX54_canBe_46 : decode cX54_canBe 46 = .ok (.if_icmp .le 8, 3) := dk_164 0 8 (dk_at dksX54_canBe_2 0 rfl rfl)
theorem dX54_canBe_49 : decode cX54_canBe 49 = .ok (.iload 5, 2) := dk_21 5 (dk_at dksX54_canBe_2 3 rfl rfl)
theorem dX54_canBe_51 : decode cX54_canBe 51 = .ok (.goto 5, 3) := dk_167 0 5 (dk_at dksX54_canBe_2 5 rfl rfl)
theorem dX54_canBe_54 : decode cX54_canBe 54 = .ok (.iload 8, 2) := dk_21 8 (dk_at dksX54_canBe_2 8 rfl rfl)
theorem dX54_canBe_56 : decode cX54_canBe 56 = .ok (.iload_n 3, 1) := dk_29 (dk_at dksX54_canBe_2 10 rfl rfl)
theorem dX54_canBe_57 : decode cX54_canBe 57 = .ok (.iconst 2, 1) := dk_5 (dk_at dksX54_canBe_2 11 rfl rfl)
theorem dX54_canBe_58 : decode cX54_canBe 58 = .ok (.if_icmp .le 8, 3) := dk_164 0 8 (dk_at dksX54_canBe_2 12 rfl rfl)
theorem dX54_canBe_61 : decode cX54_canBe 61 = .ok (.iload 6, 2) := dk_21 6 (dk_at dksX54_canBe_2 15 rfl rfl)
theorem dX54_canBe_63 : decode cX54_canBe 63 = .ok (.goto 5, 3) := dk_167 0 5 (dk_at dksX54_canBe_2 17 rfl rfl)
theorem dX54_canBe_66 : decode cX54_canBe 66 = .ok (.iload 9, 2) := dk_21 9 (dk_at dksX54_canBe_2 20 rfl rfl)
theorem dX54_canBe_68 : decode cX54_canBe 68 = .ok (.invokevirtual 65, 3) := dk_182 0 65 (dk_at dksX54_canBe_3 0 rfl rfl)
theorem dX54_canBe_71 : decode cX54_canBe 71 = .ok (.ifCond .eq 5, 3) := dk_153 0 5 (dk_at dksX54_canBe_3 3 rfl rfl)
theorem dX54_canBe_74 : decode cX54_canBe 74 = .ok (.iconst 1, 1) := dk_4 (dk_at dksX54_canBe_3 6 rfl rfl)
theorem dX54_canBe_75 : decode cX54_canBe 75 = .ok (.ireturn, 1) := dk_172 (dk_at dksX54_canBe_3 7 rfl rfl)
theorem dX54_canBe_76 : decode cX54_canBe 76 = .ok (.iinc 9 1, 3) := dk_132 9 1 (dk_at dksX54_canBe_3 8 rfl rfl)
theorem dX54_canBe_79 : decode cX54_canBe 79 = .ok (.goto (-56), 3) := dk_167 255 200 (dk_at dksX54_canBe_3 11 rfl rfl)
theorem dX54_canBe_82 : decode cX54_canBe 82 = .ok (.iinc 8 1, 3) := dk_132 8 1 (dk_at dksX54_canBe_3 14 rfl rfl)
theorem dX54_canBe_85 : decode cX54_canBe 85 = .ok (.goto (-72), 3) := dk_167 255 184 (dk_at dksX54_canBe_3 17 rfl rfl)
theorem dX54_canBe_88 : decode cX54_canBe 88 = .ok (.iinc 7 1, 3) := dk_132 7 1 (dk_at dksX54_canBe_3 20 rfl rfl)
theorem dX54_canBe_91 : decode cX54_canBe 91 = .ok (.goto (-88), 3) := dk_167 255 168 (dk_at dksX54_canBe_4 0 rfl rfl)
theorem dX54_canBe_94 : decode cX54_canBe 94 = .ok (.iconst 0, 1) := dk_3 (dk_at dksX54_canBe_4 3 rfl rfl)
theorem dX54_canBe_95 : decode cX54_canBe 95 = .ok (.ireturn, 1) := dk_172 (dk_at dksX54_canBe_4 4 rfl rfl)
abbrev cX54_isAllowed : ByteArray := prog_61_method_7_code
def yX54_isAllowed : MethodName := ⟨RX54, "isAllowed", "(IIIII)Z"⟩
def dkwX54_isAllowed_15 : List UInt8 := [21, 4, 155, 0, 13, 21, 4, 7, 162, 0, 7, 4, 167, 0, 4, 3, 172]
abbrev dktX54_isAllowed_15 : List UInt8 := dkwX54_isAllowed_15 ++ []
def dkwX54_isAllowed_14 : List UInt8 := [104, 29, 96, 46, 21, 4, 159, 0, 7, 4, 167, 0, 4, 3, 172, 42, 27, 29, 182, 0, 57, 153, 0, 18]
abbrev dktX54_isAllowed_14 : List UInt8 := dkwX54_isAllowed_14 ++ dktX54_isAllowed_15
def dkwX54_isAllowed_13 : List UInt8 := [182, 0, 57, 153, 0, 34, 21, 4, 155, 0, 29, 21, 4, 7, 162, 0, 23, 42, 180, 0, 35, 16, 10, 27]
abbrev dktX54_isAllowed_13 : List UInt8 := dkwX54_isAllowed_13 ++ dktX54_isAllowed_14
def dkwX54_isAllowed_12 : List UInt8 := [27, 104, 16, 8, 29, 104, 96, 21, 4, 96, 51, 154, 0, 7, 4, 167, 0, 4, 3, 172, 42, 27, 29]
abbrev dktX54_isAllowed_12 : List UInt8 := dkwX54_isAllowed_12 ++ dktX54_isAllowed_13
def dkwX54_isAllowed_11 : List UInt8 := [182, 0, 57, 153, 0, 39, 21, 4, 155, 0, 34, 21, 4, 16, 8, 162, 0, 27, 42, 180, 0, 32, 16, 80]
abbrev dktX54_isAllowed_11 : List UInt8 := dkwX54_isAllowed_11 ++ dktX54_isAllowed_12
def dkwX54_isAllowed_10 : List UInt8 := [159, 0, 18, 21, 5, 155, 0, 13, 21, 5, 7, 162, 0, 7, 4, 167, 0, 4, 3, 172, 42, 27, 29]
abbrev dktX54_isAllowed_10 : List UInt8 := dkwX54_isAllowed_10 ++ dktX54_isAllowed_11
def dkwX54_isAllowed_9 : List UInt8 := [42, 27, 29, 182, 0, 57, 153, 0, 34, 42, 27, 21, 4, 182, 0, 57, 153, 0, 24, 29, 21, 4]
abbrev dktX54_isAllowed_9 : List UInt8 := dkwX54_isAllowed_9 ++ dktX54_isAllowed_10
def dkwX54_isAllowed_8 : List UInt8 := [184, 0, 61, 51, 154, 0, 7, 4, 167, 0, 4, 3, 172, 42, 180, 0, 26, 27, 46, 16, 20, 162, 0, 43]
abbrev dktX54_isAllowed_8 : List UInt8 := dkwX54_isAllowed_8 ++ dktX54_isAllowed_9
def dkwX54_isAllowed_7 : List UInt8 := [182, 0, 57, 153, 0, 30, 29, 21, 5, 159, 0, 24, 42, 180, 0, 23, 27, 29, 21, 4, 21, 5]
abbrev dktX54_isAllowed_7 : List UInt8 := dkwX54_isAllowed_7 ++ dktX54_isAllowed_8
def dkwX54_isAllowed_6 : List UInt8 := [29, 182, 0, 57, 153, 0, 52, 21, 4, 155, 0, 47, 21, 4, 16, 6, 162, 0, 40, 42, 27, 21, 5]
abbrev dktX54_isAllowed_6 : List UInt8 := dkwX54_isAllowed_6 ++ dktX54_isAllowed_7
def dkwX54_isAllowed_5 : List UInt8 := [16, 100, 27, 104, 16, 10, 29, 104, 96, 21, 4, 96, 51, 154, 0, 7, 4, 167, 0, 4, 3, 172, 42, 27]
abbrev dktX54_isAllowed_5 : List UInt8 := dkwX54_isAllowed_5 ++ dktX54_isAllowed_6
def dkwX54_isAllowed_4 : List UInt8 := [153, 0, 43, 42, 27, 21, 4, 182, 0, 57, 153, 0, 33, 29, 21, 4, 159, 0, 27, 42, 180, 0, 19]
abbrev dktX54_isAllowed_4 : List UInt8 := dkwX54_isAllowed_4 ++ dktX54_isAllowed_5
def dkwX54_isAllowed_3 : List UInt8 := [155, 0, 14, 21, 4, 18, 56, 163, 0, 7, 4, 167, 0, 4, 3, 172, 42, 27, 29, 182, 0, 57]
abbrev dktX54_isAllowed_3 : List UInt8 := dkwX54_isAllowed_3 ++ dktX54_isAllowed_4
def dkwX54_isAllowed_2 : List UInt8 := [42, 180, 0, 7, 27, 46, 16, 10, 162, 0, 29, 29, 155, 0, 25, 29, 16, 10, 162, 0, 19, 21, 4]
abbrev dktX54_isAllowed_2 : List UInt8 := dkwX54_isAllowed_2 ++ dktX54_isAllowed_3
def dkwX54_isAllowed_1 : List UInt8 := [170, 0, 0, 0, 0, 1, 75, 0, 0, 0, 0, 0, 0, 0, 5, 0, 0, 0, 39, 0, 0, 0, 78, 0, 0, 0, 129, 0, 0, 0, 189, 0, 0, 0, 242, 0, 0, 1, 33]
abbrev dktX54_isAllowed_1 : List UInt8 := dkwX54_isAllowed_1 ++ dktX54_isAllowed_2
def dkwX54_isAllowed_0 : List UInt8 := [28]
abbrev dktX54_isAllowed_0 : List UInt8 := dkwX54_isAllowed_0 ++ dktX54_isAllowed_1
theorem dksX54_isAllowed_0 : cX54_isAllowed.data.toList.drop 0 = dktX54_isAllowed_0 := by decide +kernel
theorem dksX54_isAllowed_1 : cX54_isAllowed.data.toList.drop 1 = dktX54_isAllowed_1 := dk_seg dksX54_isAllowed_0 1 rfl rfl
theorem dksX54_isAllowed_2 : cX54_isAllowed.data.toList.drop 40 = dktX54_isAllowed_2 := dk_seg dksX54_isAllowed_1 39 rfl rfl
theorem dksX54_isAllowed_3 : cX54_isAllowed.data.toList.drop 63 = dktX54_isAllowed_3 := dk_seg dksX54_isAllowed_2 23 rfl rfl
theorem dksX54_isAllowed_4 : cX54_isAllowed.data.toList.drop 85 = dktX54_isAllowed_4 := dk_seg dksX54_isAllowed_3 22 rfl rfl
theorem dksX54_isAllowed_5 : cX54_isAllowed.data.toList.drop 108 = dktX54_isAllowed_5 := dk_seg dksX54_isAllowed_4 23 rfl rfl
theorem dksX54_isAllowed_6 : cX54_isAllowed.data.toList.drop 132 = dktX54_isAllowed_6 := dk_seg dksX54_isAllowed_5 24 rfl rfl
theorem dksX54_isAllowed_7 : cX54_isAllowed.data.toList.drop 155 = dktX54_isAllowed_7 := dk_seg dksX54_isAllowed_6 23 rfl rfl
theorem dksX54_isAllowed_8 : cX54_isAllowed.data.toList.drop 177 = dktX54_isAllowed_8 := dk_seg dksX54_isAllowed_7 22 rfl rfl
theorem dksX54_isAllowed_9 : cX54_isAllowed.data.toList.drop 201 = dktX54_isAllowed_9 := dk_seg dksX54_isAllowed_8 24 rfl rfl
theorem dksX54_isAllowed_10 : cX54_isAllowed.data.toList.drop 223 = dktX54_isAllowed_10 := dk_seg dksX54_isAllowed_9 22 rfl rfl
theorem dksX54_isAllowed_11 : cX54_isAllowed.data.toList.drop 246 = dktX54_isAllowed_11 := dk_seg dksX54_isAllowed_10 23 rfl rfl
theorem dksX54_isAllowed_12 : cX54_isAllowed.data.toList.drop 270 = dktX54_isAllowed_12 := dk_seg dksX54_isAllowed_11 24 rfl rfl
theorem dksX54_isAllowed_13 : cX54_isAllowed.data.toList.drop 293 = dktX54_isAllowed_13 := dk_seg dksX54_isAllowed_12 23 rfl rfl
theorem dksX54_isAllowed_14 : cX54_isAllowed.data.toList.drop 317 = dktX54_isAllowed_14 := dk_seg dksX54_isAllowed_13 24 rfl rfl
theorem dksX54_isAllowed_15 : cX54_isAllowed.data.toList.drop 341 = dktX54_isAllowed_15 := dk_seg dksX54_isAllowed_14 24 rfl rfl
theorem dX54_isAllowed_0 : decode cX54_isAllowed 0 = .ok (.iload_n 2, 1) := dk_28 (dk_at dksX54_isAllowed_0 0 rfl rfl)
theorem dX54_isAllowed_1 : decode cX54_isAllowed 1 = .ok (.tableswitch 331 0 5 #[39, 78, 129, 189, 242, 289], 39) := by decide +kernel
theorem dX54_isAllowed_40 : decode cX54_isAllowed 40 = .ok (.aload_n 0, 1) := dk_42 (dk_at dksX54_isAllowed_2 0 rfl rfl)
theorem dX54_isAllowed_41 : decode cX54_isAllowed 41 = .ok (.getfield 7, 3) := dk_180 0 7 (dk_at dksX54_isAllowed_2 1 rfl rfl)
theorem dX54_isAllowed_44 : decode cX54_isAllowed 44 = .ok (.iload_n 1, 1) := dk_27 (dk_at dksX54_isAllowed_2 4 rfl rfl)
theorem dX54_isAllowed_45 : decode cX54_isAllowed 45 = .ok (.iaload, 1) := dk_46 (dk_at dksX54_isAllowed_2 5 rfl rfl)
theorem dX54_isAllowed_46 : decode cX54_isAllowed 46 = .ok (.bipush 10, 2) := dk_16 10 (dk_at dksX54_isAllowed_2 6 rfl rfl)
theorem dX54_isAllowed_48 : decode cX54_isAllowed 48 = .ok (.if_icmp .ge 29, 3) := dk_162 0 29 (dk_at dksX54_isAllowed_2 8 rfl rfl)
theorem dX54_isAllowed_51 : decode cX54_isAllowed 51 = .ok (.iload_n 3, 1) := dk_29 (dk_at dksX54_isAllowed_2 11 rfl rfl)
theorem dX54_isAllowed_52 : decode cX54_isAllowed 52 = .ok (.ifCond .lt 25, 3) := dk_155 0 25 (dk_at dksX54_isAllowed_2 12 rfl rfl)
theorem dX54_isAllowed_55 : decode cX54_isAllowed 55 = .ok (.iload_n 3, 1) := dk_29 (dk_at dksX54_isAllowed_2 15 rfl rfl)
theorem dX54_isAllowed_56 : decode cX54_isAllowed 56 = .ok (.bipush 10, 2) := dk_16 10 (dk_at dksX54_isAllowed_2 16 rfl rfl)
theorem dX54_isAllowed_58 : decode cX54_isAllowed 58 = .ok (.if_icmp .ge 19, 3) := dk_162 0 19 (dk_at dksX54_isAllowed_2 18 rfl rfl)
theorem dX54_isAllowed_61 : decode cX54_isAllowed 61 = .ok (.iload 4, 2) := dk_21 4 (dk_at dksX54_isAllowed_2 21 rfl rfl)
theorem dX54_isAllowed_63 : decode cX54_isAllowed 63 = .ok (.ifCond .lt 14, 3) := dk_155 0 14 (dk_at dksX54_isAllowed_3 0 rfl rfl)
theorem dX54_isAllowed_66 : decode cX54_isAllowed 66 = .ok (.iload 4, 2) := dk_21 4 (dk_at dksX54_isAllowed_3 3 rfl rfl)
theorem dX54_isAllowed_68 : decode cX54_isAllowed 68 = .ok (.ldc 56, 2) := dk_18 56 (dk_at dksX54_isAllowed_3 5 rfl rfl)
theorem dX54_isAllowed_70 : decode cX54_isAllowed 70 = .ok (.if_icmp .gt 7, 3) := dk_163 0 7 (dk_at dksX54_isAllowed_3 7 rfl rfl)
theorem dX54_isAllowed_73 : decode cX54_isAllowed 73 = .ok (.iconst 1, 1) := dk_4 (dk_at dksX54_isAllowed_3 10 rfl rfl)
theorem dX54_isAllowed_74 : decode cX54_isAllowed 74 = .ok (.goto 4, 3) := dk_167 0 4 (dk_at dksX54_isAllowed_3 11 rfl rfl)
theorem dX54_isAllowed_77 : decode cX54_isAllowed 77 = .ok (.iconst 0, 1) := dk_3 (dk_at dksX54_isAllowed_3 14 rfl rfl)
theorem dX54_isAllowed_78 : decode cX54_isAllowed 78 = .ok (.ireturn, 1) := dk_172 (dk_at dksX54_isAllowed_3 15 rfl rfl)
theorem dX54_isAllowed_79 : decode cX54_isAllowed 79 = .ok (.aload_n 0, 1) := dk_42 (dk_at dksX54_isAllowed_3 16 rfl rfl)
theorem dX54_isAllowed_80 : decode cX54_isAllowed 80 = .ok (.iload_n 1, 1) := dk_27 (dk_at dksX54_isAllowed_3 17 rfl rfl)
theorem dX54_isAllowed_81 : decode cX54_isAllowed 81 = .ok (.iload_n 3, 1) := dk_29 (dk_at dksX54_isAllowed_3 18 rfl rfl)
theorem dX54_isAllowed_82 : decode cX54_isAllowed 82 = .ok (.invokevirtual 57, 3) := dk_182 0 57 (dk_at dksX54_isAllowed_3 19 rfl rfl)
theorem dX54_isAllowed_85 : decode cX54_isAllowed 85 = .ok (.ifCond .eq 43, 3) := dk_153 0 43 (dk_at dksX54_isAllowed_4 0 rfl rfl)
theorem dX54_isAllowed_88 : decode cX54_isAllowed 88 = .ok (.aload_n 0, 1) := dk_42 (dk_at dksX54_isAllowed_4 3 rfl rfl)
theorem dX54_isAllowed_89 : decode cX54_isAllowed 89 = .ok (.iload_n 1, 1) := dk_27 (dk_at dksX54_isAllowed_4 4 rfl rfl)
theorem dX54_isAllowed_90 : decode cX54_isAllowed 90 = .ok (.iload 4, 2) := dk_21 4 (dk_at dksX54_isAllowed_4 5 rfl rfl)
theorem dX54_isAllowed_92 : decode cX54_isAllowed 92 = .ok (.invokevirtual 57, 3) := dk_182 0 57 (dk_at dksX54_isAllowed_4 7 rfl rfl)
theorem dX54_isAllowed_95 : decode cX54_isAllowed 95 = .ok (.ifCond .eq 33, 3) := dk_153 0 33 (dk_at dksX54_isAllowed_4 10 rfl rfl)
theorem dX54_isAllowed_98 : decode cX54_isAllowed 98 = .ok (.iload_n 3, 1) := dk_29 (dk_at dksX54_isAllowed_4 13 rfl rfl)
theorem dX54_isAllowed_99 : decode cX54_isAllowed 99 = .ok (.iload 4, 2) := dk_21 4 (dk_at dksX54_isAllowed_4 14 rfl rfl)
theorem dX54_isAllowed_101 : decode cX54_isAllowed 101 = .ok (.if_icmp .eq 27, 3) := dk_159 0 27 (dk_at dksX54_isAllowed_4 16 rfl rfl)
theorem dX54_isAllowed_104 : decode cX54_isAllowed 104 = .ok (.aload_n 0, 1) := dk_42 (dk_at dksX54_isAllowed_4 19 rfl rfl)
theorem dX54_isAllowed_105 : decode cX54_isAllowed 105 = .ok (.getfield 19, 3) := dk_180 0 19 (dk_at dksX54_isAllowed_4 20 rfl rfl)
theorem dX54_isAllowed_108 : decode cX54_isAllowed 108 = .ok (.bipush 100, 2) := dk_16 100 (dk_at dksX54_isAllowed_5 0 rfl rfl)
theorem dX54_isAllowed_110 : decode cX54_isAllowed 110 = .ok (.iload_n 1, 1) := dk_27 (dk_at dksX54_isAllowed_5 2 rfl rfl)
theorem dX54_isAllowed_111 : decode cX54_isAllowed 111 = .ok (.imul, 1) := dk_104 (dk_at dksX54_isAllowed_5 3 rfl rfl)
theorem dX54_isAllowed_112 : decode cX54_isAllowed 112 = .ok (.bipush 10, 2) := dk_16 10 (dk_at dksX54_isAllowed_5 4 rfl rfl)
theorem dX54_isAllowed_114 : decode cX54_isAllowed 114 = .ok (.iload_n 3, 1) := dk_29 (dk_at dksX54_isAllowed_5 6 rfl rfl)
theorem dX54_isAllowed_115 : decode cX54_isAllowed 115 = .ok (.imul, 1) := dk_104 (dk_at dksX54_isAllowed_5 7 rfl rfl)
theorem dX54_isAllowed_116 : decode cX54_isAllowed 116 = .ok (.iadd, 1) := dk_96 (dk_at dksX54_isAllowed_5 8 rfl rfl)
theorem dX54_isAllowed_117 : decode cX54_isAllowed 117 = .ok (.iload 4, 2) := dk_21 4 (dk_at dksX54_isAllowed_5 9 rfl rfl)
theorem dX54_isAllowed_119 : decode cX54_isAllowed 119 = .ok (.iadd, 1) := dk_96 (dk_at dksX54_isAllowed_5 11 rfl rfl)
theorem dX54_isAllowed_120 : decode cX54_isAllowed 120 = .ok (.baload, 1) := dk_51 (dk_at dksX54_isAllowed_5 12 rfl rfl)
theorem dX54_isAllowed_121 : decode cX54_isAllowed 121 = .ok (.ifCond .ne 7, 3) := dk_154 0 7 (dk_at dksX54_isAllowed_5 13 rfl rfl)
theorem dX54_isAllowed_124 : decode cX54_isAllowed 124 = .ok (.iconst 1, 1) := dk_4 (dk_at dksX54_isAllowed_5 16 rfl rfl)
theorem dX54_isAllowed_125 : decode cX54_isAllowed 125 = .ok (.goto 4, 3) := dk_167 0 4 (dk_at dksX54_isAllowed_5 17 rfl rfl)
theorem dX54_isAllowed_128 : decode cX54_isAllowed 128 = .ok (.iconst 0, 1) := dk_3 (dk_at dksX54_isAllowed_5 20 rfl rfl)
theorem dX54_isAllowed_129 : decode cX54_isAllowed 129 = .ok (.ireturn, 1) := dk_172 (dk_at dksX54_isAllowed_5 21 rfl rfl)
theorem dX54_isAllowed_130 : decode cX54_isAllowed 130 = .ok (.aload_n 0, 1) := dk_42 (dk_at dksX54_isAllowed_5 22 rfl rfl)
theorem dX54_isAllowed_131 : decode cX54_isAllowed 131 = .ok (.iload_n 1, 1) := dk_27 (dk_at dksX54_isAllowed_5 23 rfl rfl)
theorem dX54_isAllowed_132 : decode cX54_isAllowed 132 = .ok (.iload_n 3, 1) := dk_29 (dk_at dksX54_isAllowed_6 0 rfl rfl)
theorem dX54_isAllowed_133 : decode cX54_isAllowed 133 = .ok (.invokevirtual 57, 3) := dk_182 0 57 (dk_at dksX54_isAllowed_6 1 rfl rfl)
theorem dX54_isAllowed_136 : decode cX54_isAllowed 136 = .ok (.ifCond .eq 52, 3) := dk_153 0 52 (dk_at dksX54_isAllowed_6 4 rfl rfl)
theorem dX54_isAllowed_139 : decode cX54_isAllowed 139 = .ok (.iload 4, 2) := dk_21 4 (dk_at dksX54_isAllowed_6 7 rfl rfl)
theorem dX54_isAllowed_141 : decode cX54_isAllowed 141 = .ok (.ifCond .lt 47, 3) := dk_155 0 47 (dk_at dksX54_isAllowed_6 9 rfl rfl)
theorem dX54_isAllowed_144 : decode cX54_isAllowed 144 = .ok (.iload 4, 2) := dk_21 4 (dk_at dksX54_isAllowed_6 12 rfl rfl)
theorem dX54_isAllowed_146 : decode cX54_isAllowed 146 = .ok (.bipush 6, 2) := dk_16 6 (dk_at dksX54_isAllowed_6 14 rfl rfl)
theorem dX54_isAllowed_148 : decode cX54_isAllowed 148 = .ok (.if_icmp .ge 40, 3) := dk_162 0 40 (dk_at dksX54_isAllowed_6 16 rfl rfl)
theorem dX54_isAllowed_151 : decode cX54_isAllowed 151 = .ok (.aload_n 0, 1) := dk_42 (dk_at dksX54_isAllowed_6 19 rfl rfl)
theorem dX54_isAllowed_152 : decode cX54_isAllowed 152 = .ok (.iload_n 1, 1) := dk_27 (dk_at dksX54_isAllowed_6 20 rfl rfl)
theorem dX54_isAllowed_153 : decode cX54_isAllowed 153 = .ok (.iload 5, 2) := dk_21 5 (dk_at dksX54_isAllowed_6 21 rfl rfl)
theorem dX54_isAllowed_155 : decode cX54_isAllowed 155 = .ok (.invokevirtual 57, 3) := dk_182 0 57 (dk_at dksX54_isAllowed_7 0 rfl rfl)
theorem dX54_isAllowed_158 : decode cX54_isAllowed 158 = .ok (.ifCond .eq 30, 3) := dk_153 0 30 (dk_at dksX54_isAllowed_7 3 rfl rfl)
theorem dX54_isAllowed_161 : decode cX54_isAllowed 161 = .ok (.iload_n 3, 1) := dk_29 (dk_at dksX54_isAllowed_7 6 rfl rfl)
theorem dX54_isAllowed_162 : decode cX54_isAllowed 162 = .ok (.iload 5, 2) := dk_21 5 (dk_at dksX54_isAllowed_7 7 rfl rfl)
theorem dX54_isAllowed_164 : decode cX54_isAllowed 164 = .ok (.if_icmp .eq 24, 3) := dk_159 0 24 (dk_at dksX54_isAllowed_7 9 rfl rfl)
theorem dX54_isAllowed_167 : decode cX54_isAllowed 167 = .ok (.aload_n 0, 1) := dk_42 (dk_at dksX54_isAllowed_7 12 rfl rfl)
theorem dX54_isAllowed_168 : decode cX54_isAllowed 168 = .ok (.getfield 23, 3) := dk_180 0 23 (dk_at dksX54_isAllowed_7 13 rfl rfl)
theorem dX54_isAllowed_171 : decode cX54_isAllowed 171 = .ok (.iload_n 1, 1) := dk_27 (dk_at dksX54_isAllowed_7 16 rfl rfl)
theorem dX54_isAllowed_172 : decode cX54_isAllowed 172 = .ok (.iload_n 3, 1) := dk_29 (dk_at dksX54_isAllowed_7 17 rfl rfl)
theorem dX54_isAllowed_173 : decode cX54_isAllowed 173 = .ok (.iload 4, 2) := dk_21 4 (dk_at dksX54_isAllowed_7 18 rfl rfl)
theorem dX54_isAllowed_175 : decode cX54_isAllowed 175 = .ok (.iload 5, 2) := dk_21 5 (dk_at dksX54_isAllowed_7 20 rfl rfl)
theorem dX54_isAllowed_177 : decode cX54_isAllowed 177 = .ok (.invokestatic 61, 3) := dk_184 0 61 (dk_at dksX54_isAllowed_8 0 rfl rfl)
theorem dX54_isAllowed_180 : decode cX54_isAllowed 180 = .ok (.baload, 1) := dk_51 (dk_at dksX54_isAllowed_8 3 rfl rfl)
theorem dX54_isAllowed_181 : decode cX54_isAllowed 181 = .ok (.ifCond .ne 7, 3) := dk_154 0 7 (dk_at dksX54_isAllowed_8 4 rfl rfl)
theorem dX54_isAllowed_184 : decode cX54_isAllowed 184 = .ok (.iconst 1, 1) := dk_4 (dk_at dksX54_isAllowed_8 7 rfl rfl)
theorem dX54_isAllowed_185 : decode cX54_isAllowed 185 = .ok (.goto 4, 3) := dk_167 0 4 (dk_at dksX54_isAllowed_8 8 rfl rfl)
theorem dX54_isAllowed_188 : decode cX54_isAllowed 188 = .ok (.iconst 0, 1) := dk_3 (dk_at dksX54_isAllowed_8 11 rfl rfl)
theorem dX54_isAllowed_189 : decode cX54_isAllowed 189 = .ok (.ireturn, 1) := dk_172 (dk_at dksX54_isAllowed_8 12 rfl rfl)
theorem dX54_isAllowed_190 : decode cX54_isAllowed 190 = .ok (.aload_n 0, 1) := dk_42 (dk_at dksX54_isAllowed_8 13 rfl rfl)
theorem dX54_isAllowed_191 : decode cX54_isAllowed 191 = .ok (.getfield 26, 3) := dk_180 0 26 (dk_at dksX54_isAllowed_8 14 rfl rfl)
theorem dX54_isAllowed_194 : decode cX54_isAllowed 194 = .ok (.iload_n 1, 1) := dk_27 (dk_at dksX54_isAllowed_8 17 rfl rfl)
theorem dX54_isAllowed_195 : decode cX54_isAllowed 195 = .ok (.iaload, 1) := dk_46 (dk_at dksX54_isAllowed_8 18 rfl rfl)
theorem dX54_isAllowed_196 : decode cX54_isAllowed 196 = .ok (.bipush 20, 2) := dk_16 20 (dk_at dksX54_isAllowed_8 19 rfl rfl)
theorem dX54_isAllowed_198 : decode cX54_isAllowed 198 = .ok (.if_icmp .ge 43, 3) := dk_162 0 43 (dk_at dksX54_isAllowed_8 21 rfl rfl)
theorem dX54_isAllowed_201 : decode cX54_isAllowed 201 = .ok (.aload_n 0, 1) := dk_42 (dk_at dksX54_isAllowed_9 0 rfl rfl)
theorem dX54_isAllowed_202 : decode cX54_isAllowed 202 = .ok (.iload_n 1, 1) := dk_27 (dk_at dksX54_isAllowed_9 1 rfl rfl)
theorem dX54_isAllowed_203 : decode cX54_isAllowed 203 = .ok (.iload_n 3, 1) := dk_29 (dk_at dksX54_isAllowed_9 2 rfl rfl)
theorem dX54_isAllowed_204 : decode cX54_isAllowed 204 = .ok (.invokevirtual 57, 3) := dk_182 0 57 (dk_at dksX54_isAllowed_9 3 rfl rfl)
theorem dX54_isAllowed_207 : decode cX54_isAllowed 207 = .ok (.ifCond .eq 34, 3) := dk_153 0 34 (dk_at dksX54_isAllowed_9 6 rfl rfl)
theorem dX54_isAllowed_210 : decode cX54_isAllowed 210 = .ok (.aload_n 0, 1) := dk_42 (dk_at dksX54_isAllowed_9 9 rfl rfl)
theorem dX54_isAllowed_211 : decode cX54_isAllowed 211 = .ok (.iload_n 1, 1) := dk_27 (dk_at dksX54_isAllowed_9 10 rfl rfl)
theorem dX54_isAllowed_212 : decode cX54_isAllowed 212 = .ok (.iload 4, 2) := dk_21 4 (dk_at dksX54_isAllowed_9 11 rfl rfl)
theorem dX54_isAllowed_214 : decode cX54_isAllowed 214 = .ok (.invokevirtual 57, 3) := dk_182 0 57 (dk_at dksX54_isAllowed_9 13 rfl rfl)
theorem dX54_isAllowed_217 : decode cX54_isAllowed 217 = .ok (.ifCond .eq 24, 3) := dk_153 0 24 (dk_at dksX54_isAllowed_9 16 rfl rfl)
theorem dX54_isAllowed_220 : decode cX54_isAllowed 220 = .ok (.iload_n 3, 1) := dk_29 (dk_at dksX54_isAllowed_9 19 rfl rfl)
theorem dX54_isAllowed_221 : decode cX54_isAllowed 221 = .ok (.iload 4, 2) := dk_21 4 (dk_at dksX54_isAllowed_9 20 rfl rfl)
theorem dX54_isAllowed_223 : decode cX54_isAllowed 223 = .ok (.if_icmp .eq 18, 3) := dk_159 0 18 (dk_at dksX54_isAllowed_10 0 rfl rfl)
theorem dX54_isAllowed_226 : decode cX54_isAllowed 226 = .ok (.iload 5, 2) := dk_21 5 (dk_at dksX54_isAllowed_10 3 rfl rfl)
theorem dX54_isAllowed_228 : decode cX54_isAllowed 228 = .ok (.ifCond .lt 13, 3) := dk_155 0 13 (dk_at dksX54_isAllowed_10 5 rfl rfl)
theorem dX54_isAllowed_231 : decode cX54_isAllowed 231 = .ok (.iload 5, 2) := dk_21 5 (dk_at dksX54_isAllowed_10 8 rfl rfl)
theorem dX54_isAllowed_233 : decode cX54_isAllowed 233 = .ok (.iconst 4, 1) := dk_7 (dk_at dksX54_isAllowed_10 10 rfl rfl)
theorem dX54_isAllowed_234 : decode cX54_isAllowed 234 = .ok (.if_icmp .ge 7, 3) := dk_162 0 7 (dk_at dksX54_isAllowed_10 11 rfl rfl)
theorem dX54_isAllowed_237 : decode cX54_isAllowed 237 = .ok (.iconst 1, 1) := dk_4 (dk_at dksX54_isAllowed_10 14 rfl rfl)
theorem dX54_isAllowed_238 : decode cX54_isAllowed 238 = .ok (.goto 4, 3) := dk_167 0 4 (dk_at dksX54_isAllowed_10 15 rfl rfl)
theorem dX54_isAllowed_241 : decode cX54_isAllowed 241 = .ok (.iconst 0, 1) := dk_3 (dk_at dksX54_isAllowed_10 18 rfl rfl)
theorem dX54_isAllowed_242 : decode cX54_isAllowed 242 = .ok (.ireturn, 1) := dk_172 (dk_at dksX54_isAllowed_10 19 rfl rfl)
theorem dX54_isAllowed_243 : decode cX54_isAllowed 243 = .ok (.aload_n 0, 1) := dk_42 (dk_at dksX54_isAllowed_10 20 rfl rfl)
theorem dX54_isAllowed_244 : decode cX54_isAllowed 244 = .ok (.iload_n 1, 1) := dk_27 (dk_at dksX54_isAllowed_10 21 rfl rfl)
theorem dX54_isAllowed_245 : decode cX54_isAllowed 245 = .ok (.iload_n 3, 1) := dk_29 (dk_at dksX54_isAllowed_10 22 rfl rfl)
theorem dX54_isAllowed_246 : decode cX54_isAllowed 246 = .ok (.invokevirtual 57, 3) := dk_182 0 57 (dk_at dksX54_isAllowed_11 0 rfl rfl)
theorem dX54_isAllowed_249 : decode cX54_isAllowed 249 = .ok (.ifCond .eq 39, 3) := dk_153 0 39 (dk_at dksX54_isAllowed_11 3 rfl rfl)
theorem dX54_isAllowed_252 : decode cX54_isAllowed 252 = .ok (.iload 4, 2) := dk_21 4 (dk_at dksX54_isAllowed_11 6 rfl rfl)
theorem dX54_isAllowed_254 : decode cX54_isAllowed 254 = .ok (.ifCond .lt 34, 3) := dk_155 0 34 (dk_at dksX54_isAllowed_11 8 rfl rfl)
theorem dX54_isAllowed_257 : decode cX54_isAllowed 257 = .ok (.iload 4, 2) := dk_21 4 (dk_at dksX54_isAllowed_11 11 rfl rfl)
theorem dX54_isAllowed_259 : decode cX54_isAllowed 259 = .ok (.bipush 8, 2) := dk_16 8 (dk_at dksX54_isAllowed_11 13 rfl rfl)
theorem dX54_isAllowed_261 : decode cX54_isAllowed 261 = .ok (.if_icmp .ge 27, 3) := dk_162 0 27 (dk_at dksX54_isAllowed_11 15 rfl rfl)
theorem dX54_isAllowed_264 : decode cX54_isAllowed 264 = .ok (.aload_n 0, 1) := dk_42 (dk_at dksX54_isAllowed_11 18 rfl rfl)
theorem dX54_isAllowed_265 : decode cX54_isAllowed 265 = .ok (.getfield 32, 3) := dk_180 0 32 (dk_at dksX54_isAllowed_11 19 rfl rfl)
theorem dX54_isAllowed_268 : decode cX54_isAllowed 268 = .ok (.bipush 80, 2) := dk_16 80 (dk_at dksX54_isAllowed_11 22 rfl rfl)
theorem dX54_isAllowed_270 : decode cX54_isAllowed 270 = .ok (.iload_n 1, 1) := dk_27 (dk_at dksX54_isAllowed_12 0 rfl rfl)
theorem dX54_isAllowed_271 : decode cX54_isAllowed 271 = .ok (.imul, 1) := dk_104 (dk_at dksX54_isAllowed_12 1 rfl rfl)
theorem dX54_isAllowed_272 : decode cX54_isAllowed 272 = .ok (.bipush 8, 2) := dk_16 8 (dk_at dksX54_isAllowed_12 2 rfl rfl)
theorem dX54_isAllowed_274 : decode cX54_isAllowed 274 = .ok (.iload_n 3, 1) := dk_29 (dk_at dksX54_isAllowed_12 4 rfl rfl)
theorem dX54_isAllowed_275 : decode cX54_isAllowed 275 = .ok (.imul, 1) := dk_104 (dk_at dksX54_isAllowed_12 5 rfl rfl)
theorem dX54_isAllowed_276 : decode cX54_isAllowed 276 = .ok (.iadd, 1) := dk_96 (dk_at dksX54_isAllowed_12 6 rfl rfl)
theorem dX54_isAllowed_277 : decode cX54_isAllowed 277 = .ok (.iload 4, 2) := dk_21 4 (dk_at dksX54_isAllowed_12 7 rfl rfl)
theorem dX54_isAllowed_279 : decode cX54_isAllowed 279 = .ok (.iadd, 1) := dk_96 (dk_at dksX54_isAllowed_12 9 rfl rfl)
theorem dX54_isAllowed_280 : decode cX54_isAllowed 280 = .ok (.baload, 1) := dk_51 (dk_at dksX54_isAllowed_12 10 rfl rfl)
theorem dX54_isAllowed_281 : decode cX54_isAllowed 281 = .ok (.ifCond .ne 7, 3) := dk_154 0 7 (dk_at dksX54_isAllowed_12 11 rfl rfl)
theorem dX54_isAllowed_284 : decode cX54_isAllowed 284 = .ok (.iconst 1, 1) := dk_4 (dk_at dksX54_isAllowed_12 14 rfl rfl)
theorem dX54_isAllowed_285 : decode cX54_isAllowed 285 = .ok (.goto 4, 3) := dk_167 0 4 (dk_at dksX54_isAllowed_12 15 rfl rfl)
theorem dX54_isAllowed_288 : decode cX54_isAllowed 288 = .ok (.iconst 0, 1) := dk_3 (dk_at dksX54_isAllowed_12 18 rfl rfl)
theorem dX54_isAllowed_289 : decode cX54_isAllowed 289 = .ok (.ireturn, 1) := dk_172 (dk_at dksX54_isAllowed_12 19 rfl rfl)
theorem dX54_isAllowed_290 : decode cX54_isAllowed 290 = .ok (.aload_n 0, 1) := dk_42 (dk_at dksX54_isAllowed_12 20 rfl rfl)
theorem dX54_isAllowed_291 : decode cX54_isAllowed 291 = .ok (.iload_n 1, 1) := dk_27 (dk_at dksX54_isAllowed_12 21 rfl rfl)
theorem dX54_isAllowed_292 : decode cX54_isAllowed 292 = .ok (.iload_n 3, 1) := dk_29 (dk_at dksX54_isAllowed_12 22 rfl rfl)
theorem dX54_isAllowed_293 : decode cX54_isAllowed 293 = .ok (.invokevirtual 57, 3) := dk_182 0 57 (dk_at dksX54_isAllowed_13 0 rfl rfl)
theorem dX54_isAllowed_296 : decode cX54_isAllowed 296 = .ok (.ifCond .eq 34, 3) := dk_153 0 34 (dk_at dksX54_isAllowed_13 3 rfl rfl)
theorem dX54_isAllowed_299 : decode cX54_isAllowed 299 = .ok (.iload 4, 2) := dk_21 4 (dk_at dksX54_isAllowed_13 6 rfl rfl)
theorem dX54_isAllowed_301 : decode cX54_isAllowed 301 = .ok (.ifCond .lt 29, 3) := dk_155 0 29 (dk_at dksX54_isAllowed_13 8 rfl rfl)
theorem dX54_isAllowed_304 : decode cX54_isAllowed 304 = .ok (.iload 4, 2) := dk_21 4 (dk_at dksX54_isAllowed_13 11 rfl rfl)
theorem dX54_isAllowed_306 : decode cX54_isAllowed 306 = .ok (.iconst 4, 1) := dk_7 (dk_at dksX54_isAllowed_13 13 rfl rfl)
theorem dX54_isAllowed_307 : decode cX54_isAllowed 307 = .ok (.if_icmp .ge 23, 3) := dk_162 0 23 (dk_at dksX54_isAllowed_13 14 rfl rfl)
theorem dX54_isAllowed_310 : decode cX54_isAllowed 310 = .ok (.aload_n 0, 1) := dk_42 (dk_at dksX54_isAllowed_13 17 rfl rfl)
theorem dX54_isAllowed_311 : decode cX54_isAllowed 311 = .ok (.getfield 35, 3) := dk_180 0 35 (dk_at dksX54_isAllowed_13 18 rfl rfl)
theorem dX54_isAllowed_314 : decode cX54_isAllowed 314 = .ok (.bipush 10, 2) := dk_16 10 (dk_at dksX54_isAllowed_13 21 rfl rfl)
theorem dX54_isAllowed_316 : decode cX54_isAllowed 316 = .ok (.iload_n 1, 1) := dk_27 (dk_at dksX54_isAllowed_13 23 rfl rfl)
theorem dX54_isAllowed_317 : decode cX54_isAllowed 317 = .ok (.imul, 1) := dk_104 (dk_at dksX54_isAllowed_14 0 rfl rfl)
theorem dX54_isAllowed_318 : decode cX54_isAllowed 318 = .ok (.iload_n 3, 1) := dk_29 (dk_at dksX54_isAllowed_14 1 rfl rfl)
theorem dX54_isAllowed_319 : decode cX54_isAllowed 319 = .ok (.iadd, 1) := dk_96 (dk_at dksX54_isAllowed_14 2 rfl rfl)
theorem dX54_isAllowed_320 : decode cX54_isAllowed 320 = .ok (.iaload, 1) := dk_46 (dk_at dksX54_isAllowed_14 3 rfl rfl)
theorem dX54_isAllowed_321 : decode cX54_isAllowed 321 = .ok (.iload 4, 2) := dk_21 4 (dk_at dksX54_isAllowed_14 4 rfl rfl)
theorem dX54_isAllowed_323 : decode cX54_isAllowed 323 = .ok (.if_icmp .eq 7, 3) := dk_159 0 7 (dk_at dksX54_isAllowed_14 6 rfl rfl)
theorem dX54_isAllowed_326 : decode cX54_isAllowed 326 = .ok (.iconst 1, 1) := dk_4 (dk_at dksX54_isAllowed_14 9 rfl rfl)
theorem dX54_isAllowed_327 : decode cX54_isAllowed 327 = .ok (.goto 4, 3) := dk_167 0 4 (dk_at dksX54_isAllowed_14 10 rfl rfl)
theorem dX54_isAllowed_330 : decode cX54_isAllowed 330 = .ok (.iconst 0, 1) := dk_3 (dk_at dksX54_isAllowed_14 13 rfl rfl)
theorem dX54_isAllowed_331 : decode cX54_isAllowed 331 = .ok (.ireturn, 1) := dk_172 (dk_at dksX54_isAllowed_14 14 rfl rfl)
theorem dX54_isAllowed_332 : decode cX54_isAllowed 332 = .ok (.aload_n 0, 1) := dk_42 (dk_at dksX54_isAllowed_14 15 rfl rfl)
theorem dX54_isAllowed_333 : decode cX54_isAllowed 333 = .ok (.iload_n 1, 1) := dk_27 (dk_at dksX54_isAllowed_14 16 rfl rfl)
theorem dX54_isAllowed_334 : decode cX54_isAllowed 334 = .ok (.iload_n 3, 1) := dk_29 (dk_at dksX54_isAllowed_14 17 rfl rfl)
theorem dX54_isAllowed_335 : decode cX54_isAllowed 335 = .ok (.invokevirtual 57, 3) := dk_182 0 57 (dk_at dksX54_isAllowed_14 18 rfl rfl)
theorem dX54_isAllowed_338 : decode cX54_isAllowed 338 = .ok (.ifCond .eq 18, 3) := dk_153 0 18 (dk_at dksX54_isAllowed_14 21 rfl rfl)
theorem dX54_isAllowed_341 : decode cX54_isAllowed 341 = .ok (.iload 4, 2) := dk_21 4 (dk_at dksX54_isAllowed_15 0 rfl rfl)
theorem dX54_isAllowed_343 : decode cX54_isAllowed 343 = .ok (.ifCond .lt 13, 3) := dk_155 0 13 (dk_at dksX54_isAllowed_15 2 rfl rfl)
theorem dX54_isAllowed_346 : decode cX54_isAllowed 346 = .ok (.iload 4, 2) := dk_21 4 (dk_at dksX54_isAllowed_15 5 rfl rfl)
theorem dX54_isAllowed_348 : decode cX54_isAllowed 348 = .ok (.iconst 4, 1) := dk_7 (dk_at dksX54_isAllowed_15 7 rfl rfl)
theorem dX54_isAllowed_349 : decode cX54_isAllowed 349 = .ok (.if_icmp .ge 7, 3) := dk_162 0 7 (dk_at dksX54_isAllowed_15 8 rfl rfl)
theorem dX54_isAllowed_352 : decode cX54_isAllowed 352 = .ok (.iconst 1, 1) := dk_4 (dk_at dksX54_isAllowed_15 11 rfl rfl)
theorem dX54_isAllowed_353 : decode cX54_isAllowed 353 = .ok (.goto 4, 3) := dk_167 0 4 (dk_at dksX54_isAllowed_15 12 rfl rfl)
theorem dX54_isAllowed_356 : decode cX54_isAllowed 356 = .ok (.iconst 0, 1) := dk_3 (dk_at dksX54_isAllowed_15 15 rfl rfl)
theorem dX54_isAllowed_357 : decode cX54_isAllowed 357 = .ok (.ireturn, 1) := dk_172 (dk_at dksX54_isAllowed_15 16 rfl rfl)
abbrev cX54_numbersOf : ByteArray := prog_61_method_9_code
def yX54_numbersOf : MethodName := ⟨RX54, "numbersOf", "(I)I"⟩
def dkwX54_numbersOf_0 : List UInt8 := [26, 5, 159, 0, 8, 26, 6, 160, 0, 7, 6, 167, 0, 4, 5, 172]
abbrev dktX54_numbersOf_0 : List UInt8 := dkwX54_numbersOf_0 ++ []
theorem dksX54_numbersOf_0 : cX54_numbersOf.data.toList.drop 0 = dktX54_numbersOf_0 := by decide +kernel
theorem dX54_numbersOf_0 : decode cX54_numbersOf 0 = .ok (.iload_n 0, 1) := dk_26 (dk_at dksX54_numbersOf_0 0 rfl rfl)
theorem dX54_numbersOf_1 : decode cX54_numbersOf 1 = .ok (.iconst 2, 1) := dk_5 (dk_at dksX54_numbersOf_0 1 rfl rfl)
theorem dX54_numbersOf_2 : decode cX54_numbersOf 2 = .ok (.if_icmp .eq 8, 3) := dk_159 0 8 (dk_at dksX54_numbersOf_0 2 rfl rfl)
theorem dX54_numbersOf_5 : decode cX54_numbersOf 5 = .ok (.iload_n 0, 1) := dk_26 (dk_at dksX54_numbersOf_0 5 rfl rfl)
theorem dX54_numbersOf_6 : decode cX54_numbersOf 6 = .ok (.iconst 3, 1) := dk_6 (dk_at dksX54_numbersOf_0 6 rfl rfl)
theorem dX54_numbersOf_7 : decode cX54_numbersOf 7 = .ok (.if_icmp .ne 7, 3) := dk_160 0 7 (dk_at dksX54_numbersOf_0 7 rfl rfl)
theorem dX54_numbersOf_10 : decode cX54_numbersOf 10 = .ok (.iconst 3, 1) := dk_6 (dk_at dksX54_numbersOf_0 10 rfl rfl)
theorem dX54_numbersOf_11 : decode cX54_numbersOf 11 = .ok (.goto 4, 3) := dk_167 0 4 (dk_at dksX54_numbersOf_0 11 rfl rfl)
theorem dX54_numbersOf_14 : decode cX54_numbersOf 14 = .ok (.iconst 2, 1) := dk_5 (dk_at dksX54_numbersOf_0 14 rfl rfl)
theorem dX54_numbersOf_15 : decode cX54_numbersOf 15 = .ok (.ireturn, 1) := dk_172 (dk_at dksX54_numbersOf_0 15 rfl rfl)
abbrev cX54_numberOf : ByteArray := prog_61_method_16_code
def yX54_numberOf : MethodName := ⟨RX54, "numberOf", "(II)I"⟩
def dkwX54_numberOf_2 : List UInt8 := [164, 0, 7, 2, 167, 0, 10, 16, 10, 29, 104, 21, 5, 96, 62, 132, 4, 1, 167, 255, 207, 29, 172]
abbrev dktX54_numberOf_2 : List UInt8 := dkwX54_numberOf_2 ++ []
def dkwX54_numberOf_1 : List UInt8 := [155, 0, 45, 42, 180, 0, 41, 21, 4, 51, 16, 48, 100, 54, 5, 21, 5, 155, 0, 10, 21, 5, 16, 9]
abbrev dktX54_numberOf_1 : List UInt8 := dkwX54_numberOf_1 ++ dktX54_numberOf_2
def dkwX54_numberOf_0 : List UInt8 := [28, 27, 100, 16, 9, 164, 0, 7, 2, 167, 0, 4, 3, 62, 27, 54, 4, 21, 4, 28, 162, 0, 49, 29]
abbrev dktX54_numberOf_0 : List UInt8 := dkwX54_numberOf_0 ++ dktX54_numberOf_1
theorem dksX54_numberOf_0 : cX54_numberOf.data.toList.drop 0 = dktX54_numberOf_0 := by decide +kernel
theorem dksX54_numberOf_1 : cX54_numberOf.data.toList.drop 24 = dktX54_numberOf_1 := dk_seg dksX54_numberOf_0 24 rfl rfl
theorem dksX54_numberOf_2 : cX54_numberOf.data.toList.drop 48 = dktX54_numberOf_2 := dk_seg dksX54_numberOf_1 24 rfl rfl
theorem dX54_numberOf_0 : decode cX54_numberOf 0 = .ok (.iload_n 2, 1) := dk_28 (dk_at dksX54_numberOf_0 0 rfl rfl)
theorem dX54_numberOf_1 : decode cX54_numberOf 1 = .ok (.iload_n 1, 1) := dk_27 (dk_at dksX54_numberOf_0 1 rfl rfl)
theorem dX54_numberOf_2 : decode cX54_numberOf 2 = .ok (.isub, 1) := dk_100 (dk_at dksX54_numberOf_0 2 rfl rfl)
theorem dX54_numberOf_3 : decode cX54_numberOf 3 = .ok (.bipush 9, 2) := dk_16 9 (dk_at dksX54_numberOf_0 3 rfl rfl)
theorem dX54_numberOf_5 : decode cX54_numberOf 5 = .ok (.if_icmp .le 7, 3) := dk_164 0 7 (dk_at dksX54_numberOf_0 5 rfl rfl)
theorem dX54_numberOf_8 : decode cX54_numberOf 8 = .ok (.iconst (-1), 1) := dk_2 (dk_at dksX54_numberOf_0 8 rfl rfl)
theorem dX54_numberOf_9 : decode cX54_numberOf 9 = .ok (.goto 4, 3) := dk_167 0 4 (dk_at dksX54_numberOf_0 9 rfl rfl)
theorem dX54_numberOf_12 : decode cX54_numberOf 12 = .ok (.iconst 0, 1) := dk_3 (dk_at dksX54_numberOf_0 12 rfl rfl)
theorem dX54_numberOf_13 : decode cX54_numberOf 13 = .ok (.istore_n 3, 1) := dk_62 (dk_at dksX54_numberOf_0 13 rfl rfl)
theorem dX54_numberOf_14 : decode cX54_numberOf 14 = .ok (.iload_n 1, 1) := dk_27 (dk_at dksX54_numberOf_0 14 rfl rfl)
theorem dX54_numberOf_15 : decode cX54_numberOf 15 = .ok (.istore 4, 2) := dk_54 4 (dk_at dksX54_numberOf_0 15 rfl rfl)
theorem dX54_numberOf_17 : decode cX54_numberOf 17 = .ok (.iload 4, 2) := dk_21 4 (dk_at dksX54_numberOf_0 17 rfl rfl)
theorem dX54_numberOf_19 : decode cX54_numberOf 19 = .ok (.iload_n 2, 1) := dk_28 (dk_at dksX54_numberOf_0 19 rfl rfl)
theorem dX54_numberOf_20 : decode cX54_numberOf 20 = .ok (.if_icmp .ge 49, 3) := dk_162 0 49 (dk_at dksX54_numberOf_0 20 rfl rfl)
theorem dX54_numberOf_23 : decode cX54_numberOf 23 = .ok (.iload_n 3, 1) := dk_29 (dk_at dksX54_numberOf_0 23 rfl rfl)
theorem dX54_numberOf_24 : decode cX54_numberOf 24 = .ok (.ifCond .lt 45, 3) := dk_155 0 45 (dk_at dksX54_numberOf_1 0 rfl rfl)
theorem dX54_numberOf_27 : decode cX54_numberOf 27 = .ok (.aload_n 0, 1) := dk_42 (dk_at dksX54_numberOf_1 3 rfl rfl)
theorem dX54_numberOf_28 : decode cX54_numberOf 28 = .ok (.getfield 41, 3) := dk_180 0 41 (dk_at dksX54_numberOf_1 4 rfl rfl)
theorem dX54_numberOf_31 : decode cX54_numberOf 31 = .ok (.iload 4, 2) := dk_21 4 (dk_at dksX54_numberOf_1 7 rfl rfl)
theorem dX54_numberOf_33 : decode cX54_numberOf 33 = .ok (.baload, 1) := dk_51 (dk_at dksX54_numberOf_1 9 rfl rfl)
theorem dX54_numberOf_34 : decode cX54_numberOf 34 = .ok (.bipush 48, 2) := dk_16 48 (dk_at dksX54_numberOf_1 10 rfl rfl)
theorem dX54_numberOf_36 : decode cX54_numberOf 36 = .ok (.isub, 1) := dk_100 (dk_at dksX54_numberOf_1 12 rfl rfl)
theorem dX54_numberOf_37 : decode cX54_numberOf 37 = .ok (.istore 5, 2) := dk_54 5 (dk_at dksX54_numberOf_1 13 rfl rfl)
theorem dX54_numberOf_39 : decode cX54_numberOf 39 = .ok (.iload 5, 2) := dk_21 5 (dk_at dksX54_numberOf_1 15 rfl rfl)
theorem dX54_numberOf_41 : decode cX54_numberOf 41 = .ok (.ifCond .lt 10, 3) := dk_155 0 10 (dk_at dksX54_numberOf_1 17 rfl rfl)
theorem dX54_numberOf_44 : decode cX54_numberOf 44 = .ok (.iload 5, 2) := dk_21 5 (dk_at dksX54_numberOf_1 20 rfl rfl)
theorem dX54_numberOf_46 : decode cX54_numberOf 46 = .ok (.bipush 9, 2) := dk_16 9 (dk_at dksX54_numberOf_1 22 rfl rfl)
theorem dX54_numberOf_48 : decode cX54_numberOf 48 = .ok (.if_icmp .le 7, 3) := dk_164 0 7 (dk_at dksX54_numberOf_2 0 rfl rfl)
theorem dX54_numberOf_51 : decode cX54_numberOf 51 = .ok (.iconst (-1), 1) := dk_2 (dk_at dksX54_numberOf_2 3 rfl rfl)
theorem dX54_numberOf_52 : decode cX54_numberOf 52 = .ok (.goto 10, 3) := dk_167 0 10 (dk_at dksX54_numberOf_2 4 rfl rfl)
theorem dX54_numberOf_55 : decode cX54_numberOf 55 = .ok (.bipush 10, 2) := dk_16 10 (dk_at dksX54_numberOf_2 7 rfl rfl)
theorem dX54_numberOf_57 : decode cX54_numberOf 57 = .ok (.iload_n 3, 1) := dk_29 (dk_at dksX54_numberOf_2 9 rfl rfl)
theorem dX54_numberOf_58 : decode cX54_numberOf 58 = .ok (.imul, 1) := dk_104 (dk_at dksX54_numberOf_2 10 rfl rfl)
theorem dX54_numberOf_59 : decode cX54_numberOf 59 = .ok (.iload 5, 2) := dk_21 5 (dk_at dksX54_numberOf_2 11 rfl rfl)
theorem dX54_numberOf_61 : decode cX54_numberOf 61 = .ok (.iadd, 1) := dk_96 (dk_at dksX54_numberOf_2 13 rfl rfl)
theorem dX54_numberOf_62 : decode cX54_numberOf 62 = .ok (.istore_n 3, 1) := dk_62 (dk_at dksX54_numberOf_2 14 rfl rfl)
theorem dX54_numberOf_63 : decode cX54_numberOf 63 = .ok (.iinc 4 1, 3) := dk_132 4 1 (dk_at dksX54_numberOf_2 15 rfl rfl)
theorem dX54_numberOf_66 : decode cX54_numberOf 66 = .ok (.goto (-49), 3) := dk_167 255 207 (dk_at dksX54_numberOf_2 18 rfl rfl)
theorem dX54_numberOf_69 : decode cX54_numberOf 69 = .ok (.iload_n 3, 1) := dk_29 (dk_at dksX54_numberOf_2 21 rfl rfl)
theorem dX54_numberOf_70 : decode cX54_numberOf 70 = .ok (.ireturn, 1) := dk_172 (dk_at dksX54_numberOf_2 22 rfl rfl)
abbrev cX54_make : ByteArray := prog_61_method_8_code
def yX54_make : MethodName := ⟨RX54, "make", "(IIIII)V"⟩
def dkwX54_make_11 : List UInt8 := [29, 96, 21, 4, 79, 177]
abbrev dktX54_make_11 : List UInt8 := dkwX54_make_11 ++ []
def dkwX54_make_10 : List UInt8 := [42, 180, 0, 35, 16, 10, 27, 104, 29, 96, 21, 4, 79, 167, 0, 16, 42, 180, 0, 38, 16, 10, 27, 104]
abbrev dktX54_make_10 : List UInt8 := dkwX54_make_10 ++ dktX54_make_11
def dkwX54_make_9 : List UInt8 := [167, 0, 53, 42, 180, 0, 32, 16, 80, 27, 104, 16, 8, 29, 104, 96, 21, 4, 96, 4, 84, 167, 0, 32]
abbrev dktX54_make_9 : List UInt8 := dkwX54_make_9 ++ dktX54_make_10
def dkwX54_make_8 : List UInt8 := [180, 0, 26, 27, 46, 104, 96, 5, 96, 21, 5, 79, 42, 180, 0, 26, 27, 92, 46, 4, 96, 79]
abbrev dktX54_make_8 : List UInt8 := dkwX54_make_8 ++ dktX54_make_9
def dkwX54_make_7 : List UInt8 := [180, 0, 26, 27, 46, 104, 96, 4, 96, 21, 4, 79, 42, 180, 0, 29, 16, 60, 27, 104, 6, 42]
abbrev dktX54_make_7 : List UInt8 := dkwX54_make_7 ++ dktX54_make_8
def dkwX54_make_6 : List UInt8 := [104, 6, 42, 180, 0, 26, 27, 46, 104, 96, 29, 79, 42, 180, 0, 29, 16, 60, 27, 104, 6, 42]
abbrev dktX54_make_6 : List UInt8 := dkwX54_make_6 ++ dktX54_make_7
def dkwX54_make_5 : List UInt8 := [180, 0, 23, 27, 29, 21, 4, 21, 5, 184, 0, 61, 4, 84, 167, 0, 129, 42, 180, 0, 29, 16, 60, 27]
abbrev dktX54_make_5 : List UInt8 := dkwX54_make_5 ++ dktX54_make_6
def dkwX54_make_4 : List UInt8 := [42, 180, 0, 19, 16, 100, 27, 104, 16, 10, 29, 104, 96, 21, 4, 96, 4, 84, 167, 0, 147, 42]
abbrev dktX54_make_4 : List UInt8 := dkwX54_make_4 ++ dktX54_make_5
def dkwX54_make_3 : List UInt8 := [104, 42, 180, 0, 7, 27, 46, 96, 21, 4, 79, 42, 180, 0, 7, 27, 92, 46, 4, 96, 79, 167, 0, 168]
abbrev dktX54_make_3 : List UInt8 := dkwX54_make_3 ++ dktX54_make_4
def dkwX54_make_2 : List UInt8 := [42, 180, 0, 13, 16, 10, 27, 104, 42, 180, 0, 7, 27, 46, 96, 29, 79, 42, 180, 0, 16, 16, 10, 27]
abbrev dktX54_make_2 : List UInt8 := dkwX54_make_2 ++ dktX54_make_3
def dkwX54_make_1 : List UInt8 := [170, 0, 0, 0, 0, 0, 239, 0, 0, 0, 0, 0, 0, 0, 5, 0, 0, 0, 39, 0, 0, 0, 87, 0, 0, 0, 108, 0, 0, 0, 126, 0, 0, 0, 202, 0, 0, 0, 223]
abbrev dktX54_make_1 : List UInt8 := dkwX54_make_1 ++ dktX54_make_2
def dkwX54_make_0 : List UInt8 := [28]
abbrev dktX54_make_0 : List UInt8 := dkwX54_make_0 ++ dktX54_make_1
theorem dksX54_make_0 : cX54_make.data.toList.drop 0 = dktX54_make_0 := by decide +kernel
theorem dksX54_make_1 : cX54_make.data.toList.drop 1 = dktX54_make_1 := dk_seg dksX54_make_0 1 rfl rfl
theorem dksX54_make_2 : cX54_make.data.toList.drop 40 = dktX54_make_2 := dk_seg dksX54_make_1 39 rfl rfl
theorem dksX54_make_3 : cX54_make.data.toList.drop 64 = dktX54_make_3 := dk_seg dksX54_make_2 24 rfl rfl
theorem dksX54_make_4 : cX54_make.data.toList.drop 88 = dktX54_make_4 := dk_seg dksX54_make_3 24 rfl rfl
theorem dksX54_make_5 : cX54_make.data.toList.drop 110 = dktX54_make_5 := dk_seg dksX54_make_4 22 rfl rfl
theorem dksX54_make_6 : cX54_make.data.toList.drop 134 = dktX54_make_6 := dk_seg dksX54_make_5 24 rfl rfl
theorem dksX54_make_7 : cX54_make.data.toList.drop 156 = dktX54_make_7 := dk_seg dksX54_make_6 22 rfl rfl
theorem dksX54_make_8 : cX54_make.data.toList.drop 178 = dktX54_make_8 := dk_seg dksX54_make_7 22 rfl rfl
theorem dksX54_make_9 : cX54_make.data.toList.drop 200 = dktX54_make_9 := dk_seg dksX54_make_8 22 rfl rfl
theorem dksX54_make_10 : cX54_make.data.toList.drop 224 = dktX54_make_10 := dk_seg dksX54_make_9 24 rfl rfl
theorem dksX54_make_11 : cX54_make.data.toList.drop 248 = dktX54_make_11 := dk_seg dksX54_make_10 24 rfl rfl
theorem dX54_make_0 : decode cX54_make 0 = .ok (.iload_n 2, 1) := dk_28 (dk_at dksX54_make_0 0 rfl rfl)
theorem dX54_make_1 : decode cX54_make 1 = .ok (.tableswitch 239 0 5 #[39, 87, 108, 126, 202, 223], 39) := by decide +kernel
theorem dX54_make_40 : decode cX54_make 40 = .ok (.aload_n 0, 1) := dk_42 (dk_at dksX54_make_2 0 rfl rfl)
theorem dX54_make_41 : decode cX54_make 41 = .ok (.getfield 13, 3) := dk_180 0 13 (dk_at dksX54_make_2 1 rfl rfl)
theorem dX54_make_44 : decode cX54_make 44 = .ok (.bipush 10, 2) := dk_16 10 (dk_at dksX54_make_2 4 rfl rfl)
theorem dX54_make_46 : decode cX54_make 46 = .ok (.iload_n 1, 1) := dk_27 (dk_at dksX54_make_2 6 rfl rfl)
theorem dX54_make_47 : decode cX54_make 47 = .ok (.imul, 1) := dk_104 (dk_at dksX54_make_2 7 rfl rfl)
theorem dX54_make_48 : decode cX54_make 48 = .ok (.aload_n 0, 1) := dk_42 (dk_at dksX54_make_2 8 rfl rfl)
theorem dX54_make_49 : decode cX54_make 49 = .ok (.getfield 7, 3) := dk_180 0 7 (dk_at dksX54_make_2 9 rfl rfl)
theorem dX54_make_52 : decode cX54_make 52 = .ok (.iload_n 1, 1) := dk_27 (dk_at dksX54_make_2 12 rfl rfl)
theorem dX54_make_53 : decode cX54_make 53 = .ok (.iaload, 1) := dk_46 (dk_at dksX54_make_2 13 rfl rfl)
theorem dX54_make_54 : decode cX54_make 54 = .ok (.iadd, 1) := dk_96 (dk_at dksX54_make_2 14 rfl rfl)
theorem dX54_make_55 : decode cX54_make 55 = .ok (.iload_n 3, 1) := dk_29 (dk_at dksX54_make_2 15 rfl rfl)
theorem dX54_make_56 : decode cX54_make 56 = .ok (.iastore, 1) := dk_79 (dk_at dksX54_make_2 16 rfl rfl)
theorem dX54_make_57 : decode cX54_make 57 = .ok (.aload_n 0, 1) := dk_42 (dk_at dksX54_make_2 17 rfl rfl)
theorem dX54_make_58 : decode cX54_make 58 = .ok (.getfield 16, 3) := dk_180 0 16 (dk_at dksX54_make_2 18 rfl rfl)
theorem dX54_make_61 : decode cX54_make 61 = .ok (.bipush 10, 2) := dk_16 10 (dk_at dksX54_make_2 21 rfl rfl)
theorem dX54_make_63 : decode cX54_make 63 = .ok (.iload_n 1, 1) := dk_27 (dk_at dksX54_make_2 23 rfl rfl)
theorem dX54_make_64 : decode cX54_make 64 = .ok (.imul, 1) := dk_104 (dk_at dksX54_make_3 0 rfl rfl)
theorem dX54_make_65 : decode cX54_make 65 = .ok (.aload_n 0, 1) := dk_42 (dk_at dksX54_make_3 1 rfl rfl)
theorem dX54_make_66 : decode cX54_make 66 = .ok (.getfield 7, 3) := dk_180 0 7 (dk_at dksX54_make_3 2 rfl rfl)
theorem dX54_make_69 : decode cX54_make 69 = .ok (.iload_n 1, 1) := dk_27 (dk_at dksX54_make_3 5 rfl rfl)
theorem dX54_make_70 : decode cX54_make 70 = .ok (.iaload, 1) := dk_46 (dk_at dksX54_make_3 6 rfl rfl)
theorem dX54_make_71 : decode cX54_make 71 = .ok (.iadd, 1) := dk_96 (dk_at dksX54_make_3 7 rfl rfl)
theorem dX54_make_72 : decode cX54_make 72 = .ok (.iload 4, 2) := dk_21 4 (dk_at dksX54_make_3 8 rfl rfl)
theorem dX54_make_74 : decode cX54_make 74 = .ok (.iastore, 1) := dk_79 (dk_at dksX54_make_3 10 rfl rfl)
theorem dX54_make_75 : decode cX54_make 75 = .ok (.aload_n 0, 1) := dk_42 (dk_at dksX54_make_3 11 rfl rfl)
theorem dX54_make_76 : decode cX54_make 76 = .ok (.getfield 7, 3) := dk_180 0 7 (dk_at dksX54_make_3 12 rfl rfl)
theorem dX54_make_79 : decode cX54_make 79 = .ok (.iload_n 1, 1) := dk_27 (dk_at dksX54_make_3 15 rfl rfl)
theorem dX54_make_80 : decode cX54_make 80 = .ok (.dup2, 1) := dk_92 (dk_at dksX54_make_3 16 rfl rfl)
theorem dX54_make_81 : decode cX54_make 81 = .ok (.iaload, 1) := dk_46 (dk_at dksX54_make_3 17 rfl rfl)
theorem dX54_make_82 : decode cX54_make 82 = .ok (.iconst 1, 1) := dk_4 (dk_at dksX54_make_3 18 rfl rfl)
theorem dX54_make_83 : decode cX54_make 83 = .ok (.iadd, 1) := dk_96 (dk_at dksX54_make_3 19 rfl rfl)
theorem dX54_make_84 : decode cX54_make 84 = .ok (.iastore, 1) := dk_79 (dk_at dksX54_make_3 20 rfl rfl)
theorem dX54_make_85 : decode cX54_make 85 = .ok (.goto 168, 3) := dk_167 0 168 (dk_at dksX54_make_3 21 rfl rfl)
theorem dX54_make_88 : decode cX54_make 88 = .ok (.aload_n 0, 1) := dk_42 (dk_at dksX54_make_4 0 rfl rfl)
theorem dX54_make_89 : decode cX54_make 89 = .ok (.getfield 19, 3) := dk_180 0 19 (dk_at dksX54_make_4 1 rfl rfl)
theorem dX54_make_92 : decode cX54_make 92 = .ok (.bipush 100, 2) := dk_16 100 (dk_at dksX54_make_4 4 rfl rfl)
theorem dX54_make_94 : decode cX54_make 94 = .ok (.iload_n 1, 1) := dk_27 (dk_at dksX54_make_4 6 rfl rfl)
theorem dX54_make_95 : decode cX54_make 95 = .ok (.imul, 1) := dk_104 (dk_at dksX54_make_4 7 rfl rfl)
theorem dX54_make_96 : decode cX54_make 96 = .ok (.bipush 10, 2) := dk_16 10 (dk_at dksX54_make_4 8 rfl rfl)
theorem dX54_make_98 : decode cX54_make 98 = .ok (.iload_n 3, 1) := dk_29 (dk_at dksX54_make_4 10 rfl rfl)
theorem dX54_make_99 : decode cX54_make 99 = .ok (.imul, 1) := dk_104 (dk_at dksX54_make_4 11 rfl rfl)
theorem dX54_make_100 : decode cX54_make 100 = .ok (.iadd, 1) := dk_96 (dk_at dksX54_make_4 12 rfl rfl)
theorem dX54_make_101 : decode cX54_make 101 = .ok (.iload 4, 2) := dk_21 4 (dk_at dksX54_make_4 13 rfl rfl)
theorem dX54_make_103 : decode cX54_make 103 = .ok (.iadd, 1) := dk_96 (dk_at dksX54_make_4 15 rfl rfl)
theorem dX54_make_104 : decode cX54_make 104 = .ok (.iconst 1, 1) := dk_4 (dk_at dksX54_make_4 16 rfl rfl)
theorem dX54_make_105 : decode cX54_make 105 = .ok (.bastore, 1) := dk_84 (dk_at dksX54_make_4 17 rfl rfl)
theorem dX54_make_106 : decode cX54_make 106 = .ok (.goto 147, 3) := dk_167 0 147 (dk_at dksX54_make_4 18 rfl rfl)
theorem dX54_make_109 : decode cX54_make 109 = .ok (.aload_n 0, 1) := dk_42 (dk_at dksX54_make_4 21 rfl rfl)
theorem dX54_make_110 : decode cX54_make 110 = .ok (.getfield 23, 3) := dk_180 0 23 (dk_at dksX54_make_5 0 rfl rfl)
theorem dX54_make_113 : decode cX54_make 113 = .ok (.iload_n 1, 1) := dk_27 (dk_at dksX54_make_5 3 rfl rfl)
theorem dX54_make_114 : decode cX54_make 114 = .ok (.iload_n 3, 1) := dk_29 (dk_at dksX54_make_5 4 rfl rfl)
theorem dX54_make_115 : decode cX54_make 115 = .ok (.iload 4, 2) := dk_21 4 (dk_at dksX54_make_5 5 rfl rfl)
theorem dX54_make_117 : decode cX54_make 117 = .ok (.iload 5, 2) := dk_21 5 (dk_at dksX54_make_5 7 rfl rfl)
theorem dX54_make_119 : decode cX54_make 119 = .ok (.invokestatic 61, 3) := dk_184 0 61 (dk_at dksX54_make_5 9 rfl rfl)
theorem dX54_make_122 : decode cX54_make 122 = .ok (.iconst 1, 1) := dk_4 (dk_at dksX54_make_5 12 rfl rfl)
theorem dX54_make_123 : decode cX54_make 123 = .ok (.bastore, 1) := dk_84 (dk_at dksX54_make_5 13 rfl rfl)
theorem dX54_make_124 : decode cX54_make 124 = .ok (.goto 129, 3) := dk_167 0 129 (dk_at dksX54_make_5 14 rfl rfl)
theorem dX54_make_127 : decode cX54_make 127 = .ok (.aload_n 0, 1) := dk_42 (dk_at dksX54_make_5 17 rfl rfl)
theorem dX54_make_128 : decode cX54_make 128 = .ok (.getfield 29, 3) := dk_180 0 29 (dk_at dksX54_make_5 18 rfl rfl)
theorem dX54_make_131 : decode cX54_make 131 = .ok (.bipush 60, 2) := dk_16 60 (dk_at dksX54_make_5 21 rfl rfl)
theorem dX54_make_133 : decode cX54_make 133 = .ok (.iload_n 1, 1) := dk_27 (dk_at dksX54_make_5 23 rfl rfl)
theorem dX54_make_134 : decode cX54_make 134 = .ok (.imul, 1) := dk_104 (dk_at dksX54_make_6 0 rfl rfl)
theorem dX54_make_135 : decode cX54_make 135 = .ok (.iconst 3, 1) := dk_6 (dk_at dksX54_make_6 1 rfl rfl)
theorem dX54_make_136 : decode cX54_make 136 = .ok (.aload_n 0, 1) := dk_42 (dk_at dksX54_make_6 2 rfl rfl)
theorem dX54_make_137 : decode cX54_make 137 = .ok (.getfield 26, 3) := dk_180 0 26 (dk_at dksX54_make_6 3 rfl rfl)
theorem dX54_make_140 : decode cX54_make 140 = .ok (.iload_n 1, 1) := dk_27 (dk_at dksX54_make_6 6 rfl rfl)
theorem dX54_make_141 : decode cX54_make 141 = .ok (.iaload, 1) := dk_46 (dk_at dksX54_make_6 7 rfl rfl)
theorem dX54_make_142 : decode cX54_make 142 = .ok (.imul, 1) := dk_104 (dk_at dksX54_make_6 8 rfl rfl)
theorem dX54_make_143 : decode cX54_make 143 = .ok (.iadd, 1) := dk_96 (dk_at dksX54_make_6 9 rfl rfl)
theorem dX54_make_144 : decode cX54_make 144 = .ok (.iload_n 3, 1) := dk_29 (dk_at dksX54_make_6 10 rfl rfl)
theorem dX54_make_145 : decode cX54_make 145 = .ok (.iastore, 1) := dk_79 (dk_at dksX54_make_6 11 rfl rfl)
theorem dX54_make_146 : decode cX54_make 146 = .ok (.aload_n 0, 1) := dk_42 (dk_at dksX54_make_6 12 rfl rfl)
theorem dX54_make_147 : decode cX54_make 147 = .ok (.getfield 29, 3) := dk_180 0 29 (dk_at dksX54_make_6 13 rfl rfl)
theorem dX54_make_150 : decode cX54_make 150 = .ok (.bipush 60, 2) := dk_16 60 (dk_at dksX54_make_6 16 rfl rfl)
theorem dX54_make_152 : decode cX54_make 152 = .ok (.iload_n 1, 1) := dk_27 (dk_at dksX54_make_6 18 rfl rfl)
theorem dX54_make_153 : decode cX54_make 153 = .ok (.imul, 1) := dk_104 (dk_at dksX54_make_6 19 rfl rfl)
theorem dX54_make_154 : decode cX54_make 154 = .ok (.iconst 3, 1) := dk_6 (dk_at dksX54_make_6 20 rfl rfl)
theorem dX54_make_155 : decode cX54_make 155 = .ok (.aload_n 0, 1) := dk_42 (dk_at dksX54_make_6 21 rfl rfl)
theorem dX54_make_156 : decode cX54_make 156 = .ok (.getfield 26, 3) := dk_180 0 26 (dk_at dksX54_make_7 0 rfl rfl)
theorem dX54_make_159 : decode cX54_make 159 = .ok (.iload_n 1, 1) := dk_27 (dk_at dksX54_make_7 3 rfl rfl)
theorem dX54_make_160 : decode cX54_make 160 = .ok (.iaload, 1) := dk_46 (dk_at dksX54_make_7 4 rfl rfl)
theorem dX54_make_161 : decode cX54_make 161 = .ok (.imul, 1) := dk_104 (dk_at dksX54_make_7 5 rfl rfl)
theorem dX54_make_162 : decode cX54_make 162 = .ok (.iadd, 1) := dk_96 (dk_at dksX54_make_7 6 rfl rfl)
theorem dX54_make_163 : decode cX54_make 163 = .ok (.iconst 1, 1) := dk_4 (dk_at dksX54_make_7 7 rfl rfl)
theorem dX54_make_164 : decode cX54_make 164 = .ok (.iadd, 1) := dk_96 (dk_at dksX54_make_7 8 rfl rfl)
theorem dX54_make_165 : decode cX54_make 165 = .ok (.iload 4, 2) := dk_21 4 (dk_at dksX54_make_7 9 rfl rfl)
theorem dX54_make_167 : decode cX54_make 167 = .ok (.iastore, 1) := dk_79 (dk_at dksX54_make_7 11 rfl rfl)
theorem dX54_make_168 : decode cX54_make 168 = .ok (.aload_n 0, 1) := dk_42 (dk_at dksX54_make_7 12 rfl rfl)
theorem dX54_make_169 : decode cX54_make 169 = .ok (.getfield 29, 3) := dk_180 0 29 (dk_at dksX54_make_7 13 rfl rfl)
theorem dX54_make_172 : decode cX54_make 172 = .ok (.bipush 60, 2) := dk_16 60 (dk_at dksX54_make_7 16 rfl rfl)
theorem dX54_make_174 : decode cX54_make 174 = .ok (.iload_n 1, 1) := dk_27 (dk_at dksX54_make_7 18 rfl rfl)
theorem dX54_make_175 : decode cX54_make 175 = .ok (.imul, 1) := dk_104 (dk_at dksX54_make_7 19 rfl rfl)
theorem dX54_make_176 : decode cX54_make 176 = .ok (.iconst 3, 1) := dk_6 (dk_at dksX54_make_7 20 rfl rfl)
theorem dX54_make_177 : decode cX54_make 177 = .ok (.aload_n 0, 1) := dk_42 (dk_at dksX54_make_7 21 rfl rfl)
theorem dX54_make_178 : decode cX54_make 178 = .ok (.getfield 26, 3) := dk_180 0 26 (dk_at dksX54_make_8 0 rfl rfl)
theorem dX54_make_181 : decode cX54_make 181 = .ok (.iload_n 1, 1) := dk_27 (dk_at dksX54_make_8 3 rfl rfl)
theorem dX54_make_182 : decode cX54_make 182 = .ok (.iaload, 1) := dk_46 (dk_at dksX54_make_8 4 rfl rfl)
theorem dX54_make_183 : decode cX54_make 183 = .ok (.imul, 1) := dk_104 (dk_at dksX54_make_8 5 rfl rfl)
theorem dX54_make_184 : decode cX54_make 184 = .ok (.iadd, 1) := dk_96 (dk_at dksX54_make_8 6 rfl rfl)
theorem dX54_make_185 : decode cX54_make 185 = .ok (.iconst 2, 1) := dk_5 (dk_at dksX54_make_8 7 rfl rfl)
theorem dX54_make_186 : decode cX54_make 186 = .ok (.iadd, 1) := dk_96 (dk_at dksX54_make_8 8 rfl rfl)
theorem dX54_make_187 : decode cX54_make 187 = .ok (.iload 5, 2) := dk_21 5 (dk_at dksX54_make_8 9 rfl rfl)
theorem dX54_make_189 : decode cX54_make 189 = .ok (.iastore, 1) := dk_79 (dk_at dksX54_make_8 11 rfl rfl)
theorem dX54_make_190 : decode cX54_make 190 = .ok (.aload_n 0, 1) := dk_42 (dk_at dksX54_make_8 12 rfl rfl)
theorem dX54_make_191 : decode cX54_make 191 = .ok (.getfield 26, 3) := dk_180 0 26 (dk_at dksX54_make_8 13 rfl rfl)
theorem dX54_make_194 : decode cX54_make 194 = .ok (.iload_n 1, 1) := dk_27 (dk_at dksX54_make_8 16 rfl rfl)
theorem dX54_make_195 : decode cX54_make 195 = .ok (.dup2, 1) := dk_92 (dk_at dksX54_make_8 17 rfl rfl)
theorem dX54_make_196 : decode cX54_make 196 = .ok (.iaload, 1) := dk_46 (dk_at dksX54_make_8 18 rfl rfl)
theorem dX54_make_197 : decode cX54_make 197 = .ok (.iconst 1, 1) := dk_4 (dk_at dksX54_make_8 19 rfl rfl)
theorem dX54_make_198 : decode cX54_make 198 = .ok (.iadd, 1) := dk_96 (dk_at dksX54_make_8 20 rfl rfl)
theorem dX54_make_199 : decode cX54_make 199 = .ok (.iastore, 1) := dk_79 (dk_at dksX54_make_8 21 rfl rfl)
theorem dX54_make_200 : decode cX54_make 200 = .ok (.goto 53, 3) := dk_167 0 53 (dk_at dksX54_make_9 0 rfl rfl)
theorem dX54_make_203 : decode cX54_make 203 = .ok (.aload_n 0, 1) := dk_42 (dk_at dksX54_make_9 3 rfl rfl)
theorem dX54_make_204 : decode cX54_make 204 = .ok (.getfield 32, 3) := dk_180 0 32 (dk_at dksX54_make_9 4 rfl rfl)
theorem dX54_make_207 : decode cX54_make 207 = .ok (.bipush 80, 2) := dk_16 80 (dk_at dksX54_make_9 7 rfl rfl)
theorem dX54_make_209 : decode cX54_make 209 = .ok (.iload_n 1, 1) := dk_27 (dk_at dksX54_make_9 9 rfl rfl)
theorem dX54_make_210 : decode cX54_make 210 = .ok (.imul, 1) := dk_104 (dk_at dksX54_make_9 10 rfl rfl)
theorem dX54_make_211 : decode cX54_make 211 = .ok (.bipush 8, 2) := dk_16 8 (dk_at dksX54_make_9 11 rfl rfl)
theorem dX54_make_213 : decode cX54_make 213 = .ok (.iload_n 3, 1) := dk_29 (dk_at dksX54_make_9 13 rfl rfl)
theorem dX54_make_214 : decode cX54_make 214 = .ok (.imul, 1) := dk_104 (dk_at dksX54_make_9 14 rfl rfl)
theorem dX54_make_215 : decode cX54_make 215 = .ok (.iadd, 1) := dk_96 (dk_at dksX54_make_9 15 rfl rfl)
theorem dX54_make_216 : decode cX54_make 216 = .ok (.iload 4, 2) := dk_21 4 (dk_at dksX54_make_9 16 rfl rfl)
theorem dX54_make_218 : decode cX54_make 218 = .ok (.iadd, 1) := dk_96 (dk_at dksX54_make_9 18 rfl rfl)
theorem dX54_make_219 : decode cX54_make 219 = .ok (.iconst 1, 1) := dk_4 (dk_at dksX54_make_9 19 rfl rfl)
theorem dX54_make_220 : decode cX54_make 220 = .ok (.bastore, 1) := dk_84 (dk_at dksX54_make_9 20 rfl rfl)
theorem dX54_make_221 : decode cX54_make 221 = .ok (.goto 32, 3) := dk_167 0 32 (dk_at dksX54_make_9 21 rfl rfl)
theorem dX54_make_224 : decode cX54_make 224 = .ok (.aload_n 0, 1) := dk_42 (dk_at dksX54_make_10 0 rfl rfl)
theorem dX54_make_225 : decode cX54_make 225 = .ok (.getfield 35, 3) := dk_180 0 35 (dk_at dksX54_make_10 1 rfl rfl)
theorem dX54_make_228 : decode cX54_make 228 = .ok (.bipush 10, 2) := dk_16 10 (dk_at dksX54_make_10 4 rfl rfl)
theorem dX54_make_230 : decode cX54_make 230 = .ok (.iload_n 1, 1) := dk_27 (dk_at dksX54_make_10 6 rfl rfl)
theorem dX54_make_231 : decode cX54_make 231 = .ok (.imul, 1) := dk_104 (dk_at dksX54_make_10 7 rfl rfl)
theorem dX54_make_232 : decode cX54_make 232 = .ok (.iload_n 3, 1) := dk_29 (dk_at dksX54_make_10 8 rfl rfl)
theorem dX54_make_233 : decode cX54_make 233 = .ok (.iadd, 1) := dk_96 (dk_at dksX54_make_10 9 rfl rfl)
theorem dX54_make_234 : decode cX54_make 234 = .ok (.iload 4, 2) := dk_21 4 (dk_at dksX54_make_10 10 rfl rfl)
theorem dX54_make_236 : decode cX54_make 236 = .ok (.iastore, 1) := dk_79 (dk_at dksX54_make_10 12 rfl rfl)
theorem dX54_make_237 : decode cX54_make 237 = .ok (.goto 16, 3) := dk_167 0 16 (dk_at dksX54_make_10 13 rfl rfl)
theorem dX54_make_240 : decode cX54_make 240 = .ok (.aload_n 0, 1) := dk_42 (dk_at dksX54_make_10 16 rfl rfl)
theorem dX54_make_241 : decode cX54_make 241 = .ok (.getfield 38, 3) := dk_180 0 38 (dk_at dksX54_make_10 17 rfl rfl)
theorem dX54_make_244 : decode cX54_make 244 = .ok (.bipush 10, 2) := dk_16 10 (dk_at dksX54_make_10 20 rfl rfl)
theorem dX54_make_246 : decode cX54_make 246 = .ok (.iload_n 1, 1) := dk_27 (dk_at dksX54_make_10 22 rfl rfl)
theorem dX54_make_247 : decode cX54_make 247 = .ok (.imul, 1) := dk_104 (dk_at dksX54_make_10 23 rfl rfl)
theorem dX54_make_248 : decode cX54_make 248 = .ok (.iload_n 3, 1) := dk_29 (dk_at dksX54_make_11 0 rfl rfl)
theorem dX54_make_249 : decode cX54_make 249 = .ok (.iadd, 1) := dk_96 (dk_at dksX54_make_11 1 rfl rfl)
theorem dX54_make_250 : decode cX54_make 250 = .ok (.iload 4, 2) := dk_21 4 (dk_at dksX54_make_11 2 rfl rfl)
theorem dX54_make_252 : decode cX54_make 252 = .ok (.iastore, 1) := dk_79 (dk_at dksX54_make_11 4 rfl rfl)
theorem dX54_make_253 : decode cX54_make 253 = .ok (.return_, 1) := dk_177 (dk_at dksX54_make_11 5 rfl rfl)
abbrev cX54_take : ByteArray := prog_61_method_4_code
def yX54_take : MethodName := ⟨RX54, "take", "()V"⟩
def dkwX54_take_9 : List UInt8 := [132, 1, 1, 167, 255, 232, 177]
abbrev dktX54_take_9 : List UInt8 := dkwX54_take_9 ++ []
def dkwX54_take_8 : List UInt8 := [60, 27, 16, 60, 162, 0, 24, 42, 180, 0, 29, 27, 42, 180, 0, 29, 16, 60, 27, 96, 46, 79]
abbrev dktX54_take_8 : List UInt8 := dkwX54_take_8 ++ dktX54_take_9
def dkwX54_take_7 : List UInt8 := [46, 79, 42, 180, 0, 38, 27, 42, 180, 0, 38, 16, 10, 27, 96, 46, 79, 132, 1, 1, 167, 255, 187, 3]
abbrev dktX54_take_7 : List UInt8 := dkwX54_take_7 ++ dktX54_take_8
def dkwX54_take_6 : List UInt8 := [27, 42, 180, 0, 16, 16, 10, 27, 96, 46, 79, 42, 180, 0, 35, 27, 42, 180, 0, 35, 16, 10, 27, 96]
abbrev dktX54_take_6 : List UInt8 := dkwX54_take_6 ++ dktX54_take_7
def dkwX54_take_5 : List UInt8 := [16, 10, 162, 0, 69, 42, 180, 0, 13, 27, 42, 180, 0, 13, 16, 10, 27, 96, 46, 79, 42, 180, 0, 16]
abbrev dktX54_take_5 : List UInt8 := dkwX54_take_5 ++ dktX54_take_6
def dkwX54_take_4 : List UInt8 := [180, 0, 32, 27, 42, 180, 0, 32, 16, 80, 27, 96, 51, 84, 132, 1, 1, 167, 255, 232, 3, 60, 27]
abbrev dktX54_take_4 : List UInt8 := dkwX54_take_4 ++ dktX54_take_5
def dkwX54_take_3 : List UInt8 := [17, 2, 88, 27, 96, 51, 84, 132, 1, 1, 167, 255, 230, 3, 60, 27, 16, 80, 162, 0, 24, 42]
abbrev dktX54_take_3 : List UInt8 := dkwX54_take_3 ++ dktX54_take_4
def dkwX54_take_2 : List UInt8 := [132, 1, 1, 167, 255, 232, 3, 60, 27, 17, 2, 88, 162, 0, 25, 42, 180, 0, 23, 27, 42, 180, 0, 23]
abbrev dktX54_take_2 : List UInt8 := dkwX54_take_2 ++ dktX54_take_3
def dkwX54_take_1 : List UInt8 := [3, 60, 27, 16, 100, 162, 0, 24, 42, 180, 0, 19, 27, 42, 180, 0, 19, 16, 100, 27, 96, 51, 84]
abbrev dktX54_take_1 : List UInt8 := dkwX54_take_1 ++ dktX54_take_2
def dkwX54_take_0 : List UInt8 := [42, 180, 0, 7, 3, 42, 180, 0, 7, 4, 46, 79, 42, 180, 0, 26, 3, 42, 180, 0, 26, 4, 46, 79]
abbrev dktX54_take_0 : List UInt8 := dkwX54_take_0 ++ dktX54_take_1
theorem dksX54_take_0 : cX54_take.data.toList.drop 0 = dktX54_take_0 := by decide +kernel
theorem dksX54_take_1 : cX54_take.data.toList.drop 24 = dktX54_take_1 := dk_seg dksX54_take_0 24 rfl rfl
theorem dksX54_take_2 : cX54_take.data.toList.drop 47 = dktX54_take_2 := dk_seg dksX54_take_1 23 rfl rfl
theorem dksX54_take_3 : cX54_take.data.toList.drop 71 = dktX54_take_3 := dk_seg dksX54_take_2 24 rfl rfl
theorem dksX54_take_4 : cX54_take.data.toList.drop 93 = dktX54_take_4 := dk_seg dksX54_take_3 22 rfl rfl
theorem dksX54_take_5 : cX54_take.data.toList.drop 116 = dktX54_take_5 := dk_seg dksX54_take_4 23 rfl rfl
theorem dksX54_take_6 : cX54_take.data.toList.drop 140 = dktX54_take_6 := dk_seg dksX54_take_5 24 rfl rfl
theorem dksX54_take_7 : cX54_take.data.toList.drop 164 = dktX54_take_7 := dk_seg dksX54_take_6 24 rfl rfl
theorem dksX54_take_8 : cX54_take.data.toList.drop 188 = dktX54_take_8 := dk_seg dksX54_take_7 24 rfl rfl
theorem dksX54_take_9 : cX54_take.data.toList.drop 210 = dktX54_take_9 := dk_seg dksX54_take_8 22 rfl rfl
theorem dX54_take_0 : decode cX54_take 0 = .ok (.aload_n 0, 1) := dk_42 (dk_at dksX54_take_0 0 rfl rfl)
theorem dX54_take_1 : decode cX54_take 1 = .ok (.getfield 7, 3) := dk_180 0 7 (dk_at dksX54_take_0 1 rfl rfl)
theorem dX54_take_4 : decode cX54_take 4 = .ok (.iconst 0, 1) := dk_3 (dk_at dksX54_take_0 4 rfl rfl)
theorem dX54_take_5 : decode cX54_take 5 = .ok (.aload_n 0, 1) := dk_42 (dk_at dksX54_take_0 5 rfl rfl)
theorem dX54_take_6 : decode cX54_take 6 = .ok (.getfield 7, 3) := dk_180 0 7 (dk_at dksX54_take_0 6 rfl rfl)
theorem dX54_take_9 : decode cX54_take 9 = .ok (.iconst 1, 1) := dk_4 (dk_at dksX54_take_0 9 rfl rfl)
theorem dX54_take_10 : decode cX54_take 10 = .ok (.iaload, 1) := dk_46 (dk_at dksX54_take_0 10 rfl rfl)
theorem dX54_take_11 : decode cX54_take 11 = .ok (.iastore, 1) := dk_79 (dk_at dksX54_take_0 11 rfl rfl)
theorem dX54_take_12 : decode cX54_take 12 = .ok (.aload_n 0, 1) := dk_42 (dk_at dksX54_take_0 12 rfl rfl)
theorem dX54_take_13 : decode cX54_take 13 = .ok (.getfield 26, 3) := dk_180 0 26 (dk_at dksX54_take_0 13 rfl rfl)
theorem dX54_take_16 : decode cX54_take 16 = .ok (.iconst 0, 1) := dk_3 (dk_at dksX54_take_0 16 rfl rfl)
theorem dX54_take_17 : decode cX54_take 17 = .ok (.aload_n 0, 1) := dk_42 (dk_at dksX54_take_0 17 rfl rfl)
theorem dX54_take_18 : decode cX54_take 18 = .ok (.getfield 26, 3) := dk_180 0 26 (dk_at dksX54_take_0 18 rfl rfl)
theorem dX54_take_21 : decode cX54_take 21 = .ok (.iconst 1, 1) := dk_4 (dk_at dksX54_take_0 21 rfl rfl)
theorem dX54_take_22 : decode cX54_take 22 = .ok (.iaload, 1) := dk_46 (dk_at dksX54_take_0 22 rfl rfl)
theorem dX54_take_23 : decode cX54_take 23 = .ok (.iastore, 1) := dk_79 (dk_at dksX54_take_0 23 rfl rfl)
theorem dX54_take_24 : decode cX54_take 24 = .ok (.iconst 0, 1) := dk_3 (dk_at dksX54_take_1 0 rfl rfl)
theorem dX54_take_25 : decode cX54_take 25 = .ok (.istore_n 1, 1) := dk_60 (dk_at dksX54_take_1 1 rfl rfl)
theorem dX54_take_26 : decode cX54_take 26 = .ok (.iload_n 1, 1) := dk_27 (dk_at dksX54_take_1 2 rfl rfl)
theorem dX54_take_27 : decode cX54_take 27 = .ok (.bipush 100, 2) := dk_16 100 (dk_at dksX54_take_1 3 rfl rfl)
theorem dX54_take_29 : decode cX54_take 29 = .ok (.if_icmp .ge 24, 3) := dk_162 0 24 (dk_at dksX54_take_1 5 rfl rfl)
theorem dX54_take_32 : decode cX54_take 32 = .ok (.aload_n 0, 1) := dk_42 (dk_at dksX54_take_1 8 rfl rfl)
theorem dX54_take_33 : decode cX54_take 33 = .ok (.getfield 19, 3) := dk_180 0 19 (dk_at dksX54_take_1 9 rfl rfl)
theorem dX54_take_36 : decode cX54_take 36 = .ok (.iload_n 1, 1) := dk_27 (dk_at dksX54_take_1 12 rfl rfl)
theorem dX54_take_37 : decode cX54_take 37 = .ok (.aload_n 0, 1) := dk_42 (dk_at dksX54_take_1 13 rfl rfl)
theorem dX54_take_38 : decode cX54_take 38 = .ok (.getfield 19, 3) := dk_180 0 19 (dk_at dksX54_take_1 14 rfl rfl)
theorem dX54_take_41 : decode cX54_take 41 = .ok (.bipush 100, 2) := dk_16 100 (dk_at dksX54_take_1 17 rfl rfl)
theorem dX54_take_43 : decode cX54_take 43 = .ok (.iload_n 1, 1) := dk_27 (dk_at dksX54_take_1 19 rfl rfl)
theorem dX54_take_44 : decode cX54_take 44 = .ok (.iadd, 1) := dk_96 (dk_at dksX54_take_1 20 rfl rfl)
theorem dX54_take_45 : decode cX54_take 45 = .ok (.baload, 1) := dk_51 (dk_at dksX54_take_1 21 rfl rfl)
theorem dX54_take_46 : decode cX54_take 46 = .ok (.bastore, 1) := dk_84 (dk_at dksX54_take_1 22 rfl rfl)
theorem dX54_take_47 : decode cX54_take 47 = .ok (.iinc 1 1, 3) := dk_132 1 1 (dk_at dksX54_take_2 0 rfl rfl)
theorem dX54_take_50 : decode cX54_take 50 = .ok (.goto (-24), 3) := dk_167 255 232 (dk_at dksX54_take_2 3 rfl rfl)
theorem dX54_take_53 : decode cX54_take 53 = .ok (.iconst 0, 1) := dk_3 (dk_at dksX54_take_2 6 rfl rfl)
theorem dX54_take_54 : decode cX54_take 54 = .ok (.istore_n 1, 1) := dk_60 (dk_at dksX54_take_2 7 rfl rfl)
theorem dX54_take_55 : decode cX54_take 55 = .ok (.iload_n 1, 1) := dk_27 (dk_at dksX54_take_2 8 rfl rfl)
theorem dX54_take_56 : decode cX54_take 56 = .ok (.sipush 600, 3) := dk_17 2 88 (dk_at dksX54_take_2 9 rfl rfl)
theorem dX54_take_59 : decode cX54_take 59 = .ok (.if_icmp .ge 25, 3) := dk_162 0 25 (dk_at dksX54_take_2 12 rfl rfl)
theorem dX54_take_62 : decode cX54_take 62 = .ok (.aload_n 0, 1) := dk_42 (dk_at dksX54_take_2 15 rfl rfl)
theorem dX54_take_63 : decode cX54_take 63 = .ok (.getfield 23, 3) := dk_180 0 23 (dk_at dksX54_take_2 16 rfl rfl)
theorem dX54_take_66 : decode cX54_take 66 = .ok (.iload_n 1, 1) := dk_27 (dk_at dksX54_take_2 19 rfl rfl)
theorem dX54_take_67 : decode cX54_take 67 = .ok (.aload_n 0, 1) := dk_42 (dk_at dksX54_take_2 20 rfl rfl)
theorem dX54_take_68 : decode cX54_take 68 = .ok (.getfield 23, 3) := dk_180 0 23 (dk_at dksX54_take_2 21 rfl rfl)
theorem dX54_take_71 : decode cX54_take 71 = .ok (.sipush 600, 3) := dk_17 2 88 (dk_at dksX54_take_3 0 rfl rfl)
theorem dX54_take_74 : decode cX54_take 74 = .ok (.iload_n 1, 1) := dk_27 (dk_at dksX54_take_3 3 rfl rfl)
theorem dX54_take_75 : decode cX54_take 75 = .ok (.iadd, 1) := dk_96 (dk_at dksX54_take_3 4 rfl rfl)
theorem dX54_take_76 : decode cX54_take 76 = .ok (.baload, 1) := dk_51 (dk_at dksX54_take_3 5 rfl rfl)
theorem dX54_take_77 : decode cX54_take 77 = .ok (.bastore, 1) := dk_84 (dk_at dksX54_take_3 6 rfl rfl)
theorem dX54_take_78 : decode cX54_take 78 = .ok (.iinc 1 1, 3) := dk_132 1 1 (dk_at dksX54_take_3 7 rfl rfl)
theorem dX54_take_81 : decode cX54_take 81 = .ok (.goto (-26), 3) := dk_167 255 230 (dk_at dksX54_take_3 10 rfl rfl)
theorem dX54_take_84 : decode cX54_take 84 = .ok (.iconst 0, 1) := dk_3 (dk_at dksX54_take_3 13 rfl rfl)
theorem dX54_take_85 : decode cX54_take 85 = .ok (.istore_n 1, 1) := dk_60 (dk_at dksX54_take_3 14 rfl rfl)
theorem dX54_take_86 : decode cX54_take 86 = .ok (.iload_n 1, 1) := dk_27 (dk_at dksX54_take_3 15 rfl rfl)
theorem dX54_take_87 : decode cX54_take 87 = .ok (.bipush 80, 2) := dk_16 80 (dk_at dksX54_take_3 16 rfl rfl)
theorem dX54_take_89 : decode cX54_take 89 = .ok (.if_icmp .ge 24, 3) := dk_162 0 24 (dk_at dksX54_take_3 18 rfl rfl)
theorem dX54_take_92 : decode cX54_take 92 = .ok (.aload_n 0, 1) := dk_42 (dk_at dksX54_take_3 21 rfl rfl)
theorem dX54_take_93 : decode cX54_take 93 = .ok (.getfield 32, 3) := dk_180 0 32 (dk_at dksX54_take_4 0 rfl rfl)
theorem dX54_take_96 : decode cX54_take 96 = .ok (.iload_n 1, 1) := dk_27 (dk_at dksX54_take_4 3 rfl rfl)
theorem dX54_take_97 : decode cX54_take 97 = .ok (.aload_n 0, 1) := dk_42 (dk_at dksX54_take_4 4 rfl rfl)
theorem dX54_take_98 : decode cX54_take 98 = .ok (.getfield 32, 3) := dk_180 0 32 (dk_at dksX54_take_4 5 rfl rfl)
theorem dX54_take_101 : decode cX54_take 101 = .ok (.bipush 80, 2) := dk_16 80 (dk_at dksX54_take_4 8 rfl rfl)
theorem dX54_take_103 : decode cX54_take 103 = .ok (.iload_n 1, 1) := dk_27 (dk_at dksX54_take_4 10 rfl rfl)
theorem dX54_take_104 : decode cX54_take 104 = .ok (.iadd, 1) := dk_96 (dk_at dksX54_take_4 11 rfl rfl)
theorem dX54_take_105 : decode cX54_take 105 = .ok (.baload, 1) := dk_51 (dk_at dksX54_take_4 12 rfl rfl)
theorem dX54_take_106 : decode cX54_take 106 = .ok (.bastore, 1) := dk_84 (dk_at dksX54_take_4 13 rfl rfl)
theorem dX54_take_107 : decode cX54_take 107 = .ok (.iinc 1 1, 3) := dk_132 1 1 (dk_at dksX54_take_4 14 rfl rfl)
theorem dX54_take_110 : decode cX54_take 110 = .ok (.goto (-24), 3) := dk_167 255 232 (dk_at dksX54_take_4 17 rfl rfl)
theorem dX54_take_113 : decode cX54_take 113 = .ok (.iconst 0, 1) := dk_3 (dk_at dksX54_take_4 20 rfl rfl)
theorem dX54_take_114 : decode cX54_take 114 = .ok (.istore_n 1, 1) := dk_60 (dk_at dksX54_take_4 21 rfl rfl)
theorem dX54_take_115 : decode cX54_take 115 = .ok (.iload_n 1, 1) := dk_27 (dk_at dksX54_take_4 22 rfl rfl)
theorem dX54_take_116 : decode cX54_take 116 = .ok (.bipush 10, 2) := dk_16 10 (dk_at dksX54_take_5 0 rfl rfl)
theorem dX54_take_118 : decode cX54_take 118 = .ok (.if_icmp .ge 69, 3) := dk_162 0 69 (dk_at dksX54_take_5 2 rfl rfl)
theorem dX54_take_121 : decode cX54_take 121 = .ok (.aload_n 0, 1) := dk_42 (dk_at dksX54_take_5 5 rfl rfl)
theorem dX54_take_122 : decode cX54_take 122 = .ok (.getfield 13, 3) := dk_180 0 13 (dk_at dksX54_take_5 6 rfl rfl)
theorem dX54_take_125 : decode cX54_take 125 = .ok (.iload_n 1, 1) := dk_27 (dk_at dksX54_take_5 9 rfl rfl)
theorem dX54_take_126 : decode cX54_take 126 = .ok (.aload_n 0, 1) := dk_42 (dk_at dksX54_take_5 10 rfl rfl)
theorem dX54_take_127 : decode cX54_take 127 = .ok (.getfield 13, 3) := dk_180 0 13 (dk_at dksX54_take_5 11 rfl rfl)
theorem dX54_take_130 : decode cX54_take 130 = .ok (.bipush 10, 2) := dk_16 10 (dk_at dksX54_take_5 14 rfl rfl)
theorem dX54_take_132 : decode cX54_take 132 = .ok (.iload_n 1, 1) := dk_27 (dk_at dksX54_take_5 16 rfl rfl)
theorem dX54_take_133 : decode cX54_take 133 = .ok (.iadd, 1) := dk_96 (dk_at dksX54_take_5 17 rfl rfl)
theorem dX54_take_134 : decode cX54_take 134 = .ok (.iaload, 1) := dk_46 (dk_at dksX54_take_5 18 rfl rfl)
theorem dX54_take_135 : decode cX54_take 135 = .ok (.iastore, 1) := dk_79 (dk_at dksX54_take_5 19 rfl rfl)
theorem dX54_take_136 : decode cX54_take 136 = .ok (.aload_n 0, 1) := dk_42 (dk_at dksX54_take_5 20 rfl rfl)
theorem dX54_take_137 : decode cX54_take 137 = .ok (.getfield 16, 3) := dk_180 0 16 (dk_at dksX54_take_5 21 rfl rfl)
theorem dX54_take_140 : decode cX54_take 140 = .ok (.iload_n 1, 1) := dk_27 (dk_at dksX54_take_6 0 rfl rfl)
theorem dX54_take_141 : decode cX54_take 141 = .ok (.aload_n 0, 1) := dk_42 (dk_at dksX54_take_6 1 rfl rfl)
theorem dX54_take_142 : decode cX54_take 142 = .ok (.getfield 16, 3) := dk_180 0 16 (dk_at dksX54_take_6 2 rfl rfl)
theorem dX54_take_145 : decode cX54_take 145 = .ok (.bipush 10, 2) := dk_16 10 (dk_at dksX54_take_6 5 rfl rfl)
theorem dX54_take_147 : decode cX54_take 147 = .ok (.iload_n 1, 1) := dk_27 (dk_at dksX54_take_6 7 rfl rfl)
theorem dX54_take_148 : decode cX54_take 148 = .ok (.iadd, 1) := dk_96 (dk_at dksX54_take_6 8 rfl rfl)
theorem dX54_take_149 : decode cX54_take 149 = .ok (.iaload, 1) := dk_46 (dk_at dksX54_take_6 9 rfl rfl)
theorem dX54_take_150 : decode cX54_take 150 = .ok (.iastore, 1) := dk_79 (dk_at dksX54_take_6 10 rfl rfl)
theorem dX54_take_151 : decode cX54_take 151 = .ok (.aload_n 0, 1) := dk_42 (dk_at dksX54_take_6 11 rfl rfl)
theorem dX54_take_152 : decode cX54_take 152 = .ok (.getfield 35, 3) := dk_180 0 35 (dk_at dksX54_take_6 12 rfl rfl)
theorem dX54_take_155 : decode cX54_take 155 = .ok (.iload_n 1, 1) := dk_27 (dk_at dksX54_take_6 15 rfl rfl)
theorem dX54_take_156 : decode cX54_take 156 = .ok (.aload_n 0, 1) := dk_42 (dk_at dksX54_take_6 16 rfl rfl)
theorem dX54_take_157 : decode cX54_take 157 = .ok (.getfield 35, 3) := dk_180 0 35 (dk_at dksX54_take_6 17 rfl rfl)
theorem dX54_take_160 : decode cX54_take 160 = .ok (.bipush 10, 2) := dk_16 10 (dk_at dksX54_take_6 20 rfl rfl)
theorem dX54_take_162 : decode cX54_take 162 = .ok (.iload_n 1, 1) := dk_27 (dk_at dksX54_take_6 22 rfl rfl)
theorem dX54_take_163 : decode cX54_take 163 = .ok (.iadd, 1) := dk_96 (dk_at dksX54_take_6 23 rfl rfl)
theorem dX54_take_164 : decode cX54_take 164 = .ok (.iaload, 1) := dk_46 (dk_at dksX54_take_7 0 rfl rfl)
theorem dX54_take_165 : decode cX54_take 165 = .ok (.iastore, 1) := dk_79 (dk_at dksX54_take_7 1 rfl rfl)
theorem dX54_take_166 : decode cX54_take 166 = .ok (.aload_n 0, 1) := dk_42 (dk_at dksX54_take_7 2 rfl rfl)
theorem dX54_take_167 : decode cX54_take 167 = .ok (.getfield 38, 3) := dk_180 0 38 (dk_at dksX54_take_7 3 rfl rfl)
theorem dX54_take_170 : decode cX54_take 170 = .ok (.iload_n 1, 1) := dk_27 (dk_at dksX54_take_7 6 rfl rfl)
theorem dX54_take_171 : decode cX54_take 171 = .ok (.aload_n 0, 1) := dk_42 (dk_at dksX54_take_7 7 rfl rfl)
theorem dX54_take_172 : decode cX54_take 172 = .ok (.getfield 38, 3) := dk_180 0 38 (dk_at dksX54_take_7 8 rfl rfl)
theorem dX54_take_175 : decode cX54_take 175 = .ok (.bipush 10, 2) := dk_16 10 (dk_at dksX54_take_7 11 rfl rfl)
theorem dX54_take_177 : decode cX54_take 177 = .ok (.iload_n 1, 1) := dk_27 (dk_at dksX54_take_7 13 rfl rfl)
theorem dX54_take_178 : decode cX54_take 178 = .ok (.iadd, 1) := dk_96 (dk_at dksX54_take_7 14 rfl rfl)
theorem dX54_take_179 : decode cX54_take 179 = .ok (.iaload, 1) := dk_46 (dk_at dksX54_take_7 15 rfl rfl)
theorem dX54_take_180 : decode cX54_take 180 = .ok (.iastore, 1) := dk_79 (dk_at dksX54_take_7 16 rfl rfl)
theorem dX54_take_181 : decode cX54_take 181 = .ok (.iinc 1 1, 3) := dk_132 1 1 (dk_at dksX54_take_7 17 rfl rfl)
theorem dX54_take_184 : decode cX54_take 184 = .ok (.goto (-69), 3) := dk_167 255 187 (dk_at dksX54_take_7 20 rfl rfl)
theorem dX54_take_187 : decode cX54_take 187 = .ok (.iconst 0, 1) := dk_3 (dk_at dksX54_take_7 23 rfl rfl)
theorem dX54_take_188 : decode cX54_take 188 = .ok (.istore_n 1, 1) := dk_60 (dk_at dksX54_take_8 0 rfl rfl)
theorem dX54_take_189 : decode cX54_take 189 = .ok (.iload_n 1, 1) := dk_27 (dk_at dksX54_take_8 1 rfl rfl)
theorem dX54_take_190 : decode cX54_take 190 = .ok (.bipush 60, 2) := dk_16 60 (dk_at dksX54_take_8 2 rfl rfl)
theorem dX54_take_192 : decode cX54_take 192 = .ok (.if_icmp .ge 24, 3) := dk_162 0 24 (dk_at dksX54_take_8 4 rfl rfl)
theorem dX54_take_195 : decode cX54_take 195 = .ok (.aload_n 0, 1) := dk_42 (dk_at dksX54_take_8 7 rfl rfl)
theorem dX54_take_196 : decode cX54_take 196 = .ok (.getfield 29, 3) := dk_180 0 29 (dk_at dksX54_take_8 8 rfl rfl)
theorem dX54_take_199 : decode cX54_take 199 = .ok (.iload_n 1, 1) := dk_27 (dk_at dksX54_take_8 11 rfl rfl)
theorem dX54_take_200 : decode cX54_take 200 = .ok (.aload_n 0, 1) := dk_42 (dk_at dksX54_take_8 12 rfl rfl)
theorem dX54_take_201 : decode cX54_take 201 = .ok (.getfield 29, 3) := dk_180 0 29 (dk_at dksX54_take_8 13 rfl rfl)
theorem dX54_take_204 : decode cX54_take 204 = .ok (.bipush 60, 2) := dk_16 60 (dk_at dksX54_take_8 16 rfl rfl)
theorem dX54_take_206 : decode cX54_take 206 = .ok (.iload_n 1, 1) := dk_27 (dk_at dksX54_take_8 18 rfl rfl)
theorem dX54_take_207 : decode cX54_take 207 = .ok (.iadd, 1) := dk_96 (dk_at dksX54_take_8 19 rfl rfl)
theorem dX54_take_208 : decode cX54_take 208 = .ok (.iaload, 1) := dk_46 (dk_at dksX54_take_8 20 rfl rfl)
theorem dX54_take_209 : decode cX54_take 209 = .ok (.iastore, 1) := dk_79 (dk_at dksX54_take_8 21 rfl rfl)
theorem dX54_take_210 : decode cX54_take 210 = .ok (.iinc 1 1, 3) := dk_132 1 1 (dk_at dksX54_take_9 0 rfl rfl)
theorem dX54_take_213 : decode cX54_take 213 = .ok (.goto (-24), 3) := dk_167 255 232 (dk_at dksX54_take_9 3 rfl rfl)
theorem dX54_take_216 : decode cX54_take 216 = .ok (.return_, 1) := dk_177 (dk_at dksX54_take_9 6 rfl rfl)
abbrev cX54_part : ByteArray := prog_61_method_20_code
def yX54_part : MethodName := ⟨RX54, "part", "(IJ)I"⟩
def dkwX54_part_2 : List UInt8 := [3, 46, 4, 100, 172]
abbrev dktX54_part_2 : List UInt8 := dkwX54_part_2 ++ []
def dkwX54_part_1 : List UInt8 := [136, 3, 182, 0, 65, 154, 0, 5, 2, 172, 42, 3, 3, 27, 32, 136, 3, 182, 0, 121, 42, 180, 0, 7]
abbrev dktX54_part_1 : List UInt8 := dkwX54_part_1 ++ dktX54_part_2
def dkwX54_part_0 : List UInt8 := [42, 3, 181, 0, 52, 32, 9, 148, 155, 0, 24, 32, 20, 0, 132, 148, 157, 0, 16, 42, 3, 3, 27, 32]
abbrev dktX54_part_0 : List UInt8 := dkwX54_part_0 ++ dktX54_part_1
theorem dksX54_part_0 : cX54_part.data.toList.drop 0 = dktX54_part_0 := by decide +kernel
theorem dksX54_part_1 : cX54_part.data.toList.drop 24 = dktX54_part_1 := dk_seg dksX54_part_0 24 rfl rfl
theorem dksX54_part_2 : cX54_part.data.toList.drop 48 = dktX54_part_2 := dk_seg dksX54_part_1 24 rfl rfl
theorem dX54_part_0 : decode cX54_part 0 = .ok (.aload_n 0, 1) := dk_42 (dk_at dksX54_part_0 0 rfl rfl)
theorem dX54_part_1 : decode cX54_part 1 = .ok (.iconst 0, 1) := dk_3 (dk_at dksX54_part_0 1 rfl rfl)
theorem dX54_part_2 : decode cX54_part 2 = .ok (.putfield 52, 3) := dk_181 0 52 (dk_at dksX54_part_0 2 rfl rfl)
theorem dX54_part_5 : decode cX54_part 5 = .ok (.lload_n 2, 1) := dk_32 (dk_at dksX54_part_0 5 rfl rfl)
theorem dX54_part_6 : decode cX54_part 6 = .ok (.lconst 0, 1) := dk_9 (dk_at dksX54_part_0 6 rfl rfl)
theorem dX54_part_7 : decode cX54_part 7 = .ok (.lcmp, 1) := dk_148 (dk_at dksX54_part_0 7 rfl rfl)
theorem dX54_part_8 : decode cX54_part 8 = .ok (.ifCond .lt 24, 3) := dk_155 0 24 (dk_at dksX54_part_0 8 rfl rfl)
theorem dX54_part_11 : decode cX54_part 11 = .ok (.lload_n 2, 1) := dk_32 (dk_at dksX54_part_0 11 rfl rfl)
theorem dX54_part_12 : decode cX54_part 12 = .ok (.ldc2_w 132, 3) := dk_20 0 132 (dk_at dksX54_part_0 12 rfl rfl)
theorem dX54_part_15 : decode cX54_part 15 = .ok (.lcmp, 1) := dk_148 (dk_at dksX54_part_0 15 rfl rfl)
theorem dX54_part_16 : decode cX54_part 16 = .ok (.ifCond .gt 16, 3) := dk_157 0 16 (dk_at dksX54_part_0 16 rfl rfl)
theorem dX54_part_19 : decode cX54_part 19 = .ok (.aload_n 0, 1) := dk_42 (dk_at dksX54_part_0 19 rfl rfl)
theorem dX54_part_20 : decode cX54_part 20 = .ok (.iconst 0, 1) := dk_3 (dk_at dksX54_part_0 20 rfl rfl)
theorem dX54_part_21 : decode cX54_part 21 = .ok (.iconst 0, 1) := dk_3 (dk_at dksX54_part_0 21 rfl rfl)
theorem dX54_part_22 : decode cX54_part 22 = .ok (.iload_n 1, 1) := dk_27 (dk_at dksX54_part_0 22 rfl rfl)
theorem dX54_part_23 : decode cX54_part 23 = .ok (.lload_n 2, 1) := dk_32 (dk_at dksX54_part_0 23 rfl rfl)
theorem dX54_part_24 : decode cX54_part 24 = .ok (.l2i, 1) := dk_136 (dk_at dksX54_part_1 0 rfl rfl)
theorem dX54_part_25 : decode cX54_part 25 = .ok (.iconst 0, 1) := dk_3 (dk_at dksX54_part_1 1 rfl rfl)
theorem dX54_part_26 : decode cX54_part 26 = .ok (.invokevirtual 65, 3) := dk_182 0 65 (dk_at dksX54_part_1 2 rfl rfl)
theorem dX54_part_29 : decode cX54_part 29 = .ok (.ifCond .ne 5, 3) := dk_154 0 5 (dk_at dksX54_part_1 5 rfl rfl)
theorem dX54_part_32 : decode cX54_part 32 = .ok (.iconst (-1), 1) := dk_2 (dk_at dksX54_part_1 8 rfl rfl)
theorem dX54_part_33 : decode cX54_part 33 = .ok (.ireturn, 1) := dk_172 (dk_at dksX54_part_1 9 rfl rfl)
theorem dX54_part_34 : decode cX54_part 34 = .ok (.aload_n 0, 1) := dk_42 (dk_at dksX54_part_1 10 rfl rfl)
theorem dX54_part_35 : decode cX54_part 35 = .ok (.iconst 0, 1) := dk_3 (dk_at dksX54_part_1 11 rfl rfl)
theorem dX54_part_36 : decode cX54_part 36 = .ok (.iconst 0, 1) := dk_3 (dk_at dksX54_part_1 12 rfl rfl)
theorem dX54_part_37 : decode cX54_part 37 = .ok (.iload_n 1, 1) := dk_27 (dk_at dksX54_part_1 13 rfl rfl)
theorem dX54_part_38 : decode cX54_part 38 = .ok (.lload_n 2, 1) := dk_32 (dk_at dksX54_part_1 14 rfl rfl)
theorem dX54_part_39 : decode cX54_part 39 = .ok (.l2i, 1) := dk_136 (dk_at dksX54_part_1 15 rfl rfl)
theorem dX54_part_40 : decode cX54_part 40 = .ok (.iconst 0, 1) := dk_3 (dk_at dksX54_part_1 16 rfl rfl)
theorem dX54_part_41 : decode cX54_part 41 = .ok (.invokevirtual 121, 3) := dk_182 0 121 (dk_at dksX54_part_1 17 rfl rfl)
theorem dX54_part_44 : decode cX54_part 44 = .ok (.aload_n 0, 1) := dk_42 (dk_at dksX54_part_1 20 rfl rfl)
theorem dX54_part_45 : decode cX54_part 45 = .ok (.getfield 7, 3) := dk_180 0 7 (dk_at dksX54_part_1 21 rfl rfl)
theorem dX54_part_48 : decode cX54_part 48 = .ok (.iconst 0, 1) := dk_3 (dk_at dksX54_part_2 0 rfl rfl)
theorem dX54_part_49 : decode cX54_part 49 = .ok (.iaload, 1) := dk_46 (dk_at dksX54_part_2 1 rfl rfl)
theorem dX54_part_50 : decode cX54_part 50 = .ok (.iconst 1, 1) := dk_4 (dk_at dksX54_part_2 2 rfl rfl)
theorem dX54_part_51 : decode cX54_part 51 = .ok (.isub, 1) := dk_100 (dk_at dksX54_part_2 3 rfl rfl)
theorem dX54_part_52 : decode cX54_part 52 = .ok (.ireturn, 1) := dk_172 (dk_at dksX54_part_2 4 rfl rfl)
abbrev cX54_fasten : ByteArray := prog_61_method_21_code
def yX54_fasten : MethodName := ⟨RX54, "fasten", "(III)I"⟩
def dkwX54_fasten_1 : List UInt8 := [29, 182, 0, 121, 42, 180, 0, 26, 3, 46, 4, 100, 172]
abbrev dktX54_fasten_1 : List UInt8 := dkwX54_fasten_1 ++ []
def dkwX54_fasten_0 : List UInt8 := [42, 3, 181, 0, 52, 42, 3, 6, 27, 28, 29, 182, 0, 65, 154, 0, 5, 2, 172, 42, 3, 6, 27, 28]
abbrev dktX54_fasten_0 : List UInt8 := dkwX54_fasten_0 ++ dktX54_fasten_1
theorem dksX54_fasten_0 : cX54_fasten.data.toList.drop 0 = dktX54_fasten_0 := by decide +kernel
theorem dksX54_fasten_1 : cX54_fasten.data.toList.drop 24 = dktX54_fasten_1 := dk_seg dksX54_fasten_0 24 rfl rfl
theorem dX54_fasten_0 : decode cX54_fasten 0 = .ok (.aload_n 0, 1) := dk_42 (dk_at dksX54_fasten_0 0 rfl rfl)
theorem dX54_fasten_1 : decode cX54_fasten 1 = .ok (.iconst 0, 1) := dk_3 (dk_at dksX54_fasten_0 1 rfl rfl)
theorem dX54_fasten_2 : decode cX54_fasten 2 = .ok (.putfield 52, 3) := dk_181 0 52 (dk_at dksX54_fasten_0 2 rfl rfl)
theorem dX54_fasten_5 : decode cX54_fasten 5 = .ok (.aload_n 0, 1) := dk_42 (dk_at dksX54_fasten_0 5 rfl rfl)
theorem dX54_fasten_6 : decode cX54_fasten 6 = .ok (.iconst 0, 1) := dk_3 (dk_at dksX54_fasten_0 6 rfl rfl)
theorem dX54_fasten_7 : decode cX54_fasten 7 = .ok (.iconst 3, 1) := dk_6 (dk_at dksX54_fasten_0 7 rfl rfl)
theorem dX54_fasten_8 : decode cX54_fasten 8 = .ok (.iload_n 1, 1) := dk_27 (dk_at dksX54_fasten_0 8 rfl rfl)
theorem dX54_fasten_9 : decode cX54_fasten 9 = .ok (.iload_n 2, 1) := dk_28 (dk_at dksX54_fasten_0 9 rfl rfl)
theorem dX54_fasten_10 : decode cX54_fasten 10 = .ok (.iload_n 3, 1) := dk_29 (dk_at dksX54_fasten_0 10 rfl rfl)
theorem dX54_fasten_11 : decode cX54_fasten 11 = .ok (.invokevirtual 65, 3) := dk_182 0 65 (dk_at dksX54_fasten_0 11 rfl rfl)
theorem dX54_fasten_14 : decode cX54_fasten 14 = .ok (.ifCond .ne 5, 3) := dk_154 0 5 (dk_at dksX54_fasten_0 14 rfl rfl)
theorem dX54_fasten_17 : decode cX54_fasten 17 = .ok (.iconst (-1), 1) := dk_2 (dk_at dksX54_fasten_0 17 rfl rfl)
theorem dX54_fasten_18 : decode cX54_fasten 18 = .ok (.ireturn, 1) := dk_172 (dk_at dksX54_fasten_0 18 rfl rfl)
theorem dX54_fasten_19 : decode cX54_fasten 19 = .ok (.aload_n 0, 1) := dk_42 (dk_at dksX54_fasten_0 19 rfl rfl)
theorem dX54_fasten_20 : decode cX54_fasten 20 = .ok (.iconst 0, 1) := dk_3 (dk_at dksX54_fasten_0 20 rfl rfl)
theorem dX54_fasten_21 : decode cX54_fasten 21 = .ok (.iconst 3, 1) := dk_6 (dk_at dksX54_fasten_0 21 rfl rfl)
theorem dX54_fasten_22 : decode cX54_fasten 22 = .ok (.iload_n 1, 1) := dk_27 (dk_at dksX54_fasten_0 22 rfl rfl)
theorem dX54_fasten_23 : decode cX54_fasten 23 = .ok (.iload_n 2, 1) := dk_28 (dk_at dksX54_fasten_0 23 rfl rfl)
theorem dX54_fasten_24 : decode cX54_fasten 24 = .ok (.iload_n 3, 1) := dk_29 (dk_at dksX54_fasten_1 0 rfl rfl)
theorem dX54_fasten_25 : decode cX54_fasten 25 = .ok (.invokevirtual 121, 3) := dk_182 0 121 (dk_at dksX54_fasten_1 1 rfl rfl)
theorem dX54_fasten_28 : decode cX54_fasten 28 = .ok (.aload_n 0, 1) := dk_42 (dk_at dksX54_fasten_1 4 rfl rfl)
theorem dX54_fasten_29 : decode cX54_fasten 29 = .ok (.getfield 26, 3) := dk_180 0 26 (dk_at dksX54_fasten_1 5 rfl rfl)
theorem dX54_fasten_32 : decode cX54_fasten 32 = .ok (.iconst 0, 1) := dk_3 (dk_at dksX54_fasten_1 8 rfl rfl)
theorem dX54_fasten_33 : decode cX54_fasten 33 = .ok (.iaload, 1) := dk_46 (dk_at dksX54_fasten_1 9 rfl rfl)
theorem dX54_fasten_34 : decode cX54_fasten 34 = .ok (.iconst 1, 1) := dk_4 (dk_at dksX54_fasten_1 10 rfl rfl)
theorem dX54_fasten_35 : decode cX54_fasten 35 = .ok (.isub, 1) := dk_100 (dk_at dksX54_fasten_1 11 rfl rfl)
theorem dX54_fasten_36 : decode cX54_fasten 36 = .ok (.ireturn, 1) := dk_172 (dk_at dksX54_fasten_1 12 rfl rfl)
abbrev cX54_cover : ByteArray := prog_61_method_23_code
def yX54_cover : MethodName := ⟨RX54, "cover", "(II)Z"⟩
def dkwX54_cover_0 : List UInt8 := [42, 3, 181, 0, 52, 42, 4, 27, 28, 3, 182, 0, 134, 172]
abbrev dktX54_cover_0 : List UInt8 := dkwX54_cover_0 ++ []
theorem dksX54_cover_0 : cX54_cover.data.toList.drop 0 = dktX54_cover_0 := by decide +kernel
theorem dX54_cover_0 : decode cX54_cover 0 = .ok (.aload_n 0, 1) := dk_42 (dk_at dksX54_cover_0 0 rfl rfl)
theorem dX54_cover_1 : decode cX54_cover 1 = .ok (.iconst 0, 1) := dk_3 (dk_at dksX54_cover_0 1 rfl rfl)
theorem dX54_cover_2 : decode cX54_cover 2 = .ok (.putfield 52, 3) := dk_181 0 52 (dk_at dksX54_cover_0 2 rfl rfl)
theorem dX54_cover_5 : decode cX54_cover 5 = .ok (.aload_n 0, 1) := dk_42 (dk_at dksX54_cover_0 5 rfl rfl)
theorem dX54_cover_6 : decode cX54_cover 6 = .ok (.iconst 1, 1) := dk_4 (dk_at dksX54_cover_0 6 rfl rfl)
theorem dX54_cover_7 : decode cX54_cover 7 = .ok (.iload_n 1, 1) := dk_27 (dk_at dksX54_cover_0 7 rfl rfl)
theorem dX54_cover_8 : decode cX54_cover 8 = .ok (.iload_n 2, 1) := dk_28 (dk_at dksX54_cover_0 8 rfl rfl)
theorem dX54_cover_9 : decode cX54_cover 9 = .ok (.iconst 0, 1) := dk_3 (dk_at dksX54_cover_0 9 rfl rfl)
theorem dX54_cover_10 : decode cX54_cover 10 = .ok (.invokevirtual 134, 3) := dk_182 0 134 (dk_at dksX54_cover_0 10 rfl rfl)
theorem dX54_cover_13 : decode cX54_cover 13 = .ok (.ireturn, 1) := dk_172 (dk_at dksX54_cover_0 13 rfl rfl)
abbrev cX54_tell : ByteArray := prog_61_method_22_code
def yX54_tell : MethodName := ⟨RX54, "tell", "(IIII)Z"⟩
def dkwX54_tell_1 : List UInt8 := [182, 0, 121, 21, 5, 172]
abbrev dktX54_tell_1 : List UInt8 := dkwX54_tell_1 ++ []
def dkwX54_tell_0 : List UInt8 := [42, 3, 27, 28, 29, 21, 4, 182, 0, 65, 54, 5, 21, 5, 153, 0, 13, 42, 3, 27, 28, 29, 21, 4]
abbrev dktX54_tell_0 : List UInt8 := dkwX54_tell_0 ++ dktX54_tell_1
theorem dksX54_tell_0 : cX54_tell.data.toList.drop 0 = dktX54_tell_0 := by decide +kernel
theorem dksX54_tell_1 : cX54_tell.data.toList.drop 24 = dktX54_tell_1 := dk_seg dksX54_tell_0 24 rfl rfl
theorem dX54_tell_0 : decode cX54_tell 0 = .ok (.aload_n 0, 1) := dk_42 (dk_at dksX54_tell_0 0 rfl rfl)
theorem dX54_tell_1 : decode cX54_tell 1 = .ok (.iconst 0, 1) := dk_3 (dk_at dksX54_tell_0 1 rfl rfl)
theorem dX54_tell_2 : decode cX54_tell 2 = .ok (.iload_n 1, 1) := dk_27 (dk_at dksX54_tell_0 2 rfl rfl)
theorem dX54_tell_3 : decode cX54_tell 3 = .ok (.iload_n 2, 1) := dk_28 (dk_at dksX54_tell_0 3 rfl rfl)
theorem dX54_tell_4 : decode cX54_tell 4 = .ok (.iload_n 3, 1) := dk_29 (dk_at dksX54_tell_0 4 rfl rfl)
theorem dX54_tell_5 : decode cX54_tell 5 = .ok (.iload 4, 2) := dk_21 4 (dk_at dksX54_tell_0 5 rfl rfl)
theorem dX54_tell_7 : decode cX54_tell 7 = .ok (.invokevirtual 65, 3) := dk_182 0 65 (dk_at dksX54_tell_0 7 rfl rfl)
theorem dX54_tell_10 : decode cX54_tell 10 = .ok (.istore 5, 2) := dk_54 5 (dk_at dksX54_tell_0 10 rfl rfl)
theorem dX54_tell_12 : decode cX54_tell 12 = .ok (.iload 5, 2) := dk_21 5 (dk_at dksX54_tell_0 12 rfl rfl)
theorem dX54_tell_14 : decode cX54_tell 14 = .ok (.ifCond .eq 13, 3) := dk_153 0 13 (dk_at dksX54_tell_0 14 rfl rfl)
theorem dX54_tell_17 : decode cX54_tell 17 = .ok (.aload_n 0, 1) := dk_42 (dk_at dksX54_tell_0 17 rfl rfl)
theorem dX54_tell_18 : decode cX54_tell 18 = .ok (.iconst 0, 1) := dk_3 (dk_at dksX54_tell_0 18 rfl rfl)
theorem dX54_tell_19 : decode cX54_tell 19 = .ok (.iload_n 1, 1) := dk_27 (dk_at dksX54_tell_0 19 rfl rfl)
theorem dX54_tell_20 : decode cX54_tell 20 = .ok (.iload_n 2, 1) := dk_28 (dk_at dksX54_tell_0 20 rfl rfl)
theorem dX54_tell_21 : decode cX54_tell 21 = .ok (.iload_n 3, 1) := dk_29 (dk_at dksX54_tell_0 21 rfl rfl)
theorem dX54_tell_22 : decode cX54_tell 22 = .ok (.iload 4, 2) := dk_21 4 (dk_at dksX54_tell_0 22 rfl rfl)
theorem dX54_tell_24 : decode cX54_tell 24 = .ok (.invokevirtual 121, 3) := dk_182 0 121 (dk_at dksX54_tell_1 0 rfl rfl)
theorem dX54_tell_27 : decode cX54_tell 27 = .ok (.iload 5, 2) := dk_21 5 (dk_at dksX54_tell_1 3 rfl rfl)
theorem dX54_tell_29 : decode cX54_tell 29 = .ok (.ireturn, 1) := dk_172 (dk_at dksX54_tell_1 5 rfl rfl)
abbrev cX54_way : ByteArray := prog_61_method_24_code
def yX54_way : MethodName := ⟨RX54, "way", "(III)Z"⟩
def dkwX54_way_2 : List UInt8 := [29, 182, 0, 134, 153, 0, 7, 4, 167, 0, 4, 3, 172]
abbrev dktX54_way_2 : List UInt8 := dkwX54_way_2 ++ []
def dkwX54_way_1 : List UInt8 := [16, 6, 162, 0, 7, 3, 167, 0, 4, 4, 181, 0, 52, 42, 180, 0, 52, 154, 0, 18, 42, 5, 27, 28]
abbrev dktX54_way_1 : List UInt8 := dkwX54_way_1 ++ dktX54_way_2
def dkwX54_way_0 : List UInt8 := [42, 42, 3, 27, 182, 0, 57, 153, 0, 26, 42, 3, 29, 182, 0, 57, 153, 0, 17, 28, 155, 0, 13, 28]
abbrev dktX54_way_0 : List UInt8 := dkwX54_way_0 ++ dktX54_way_1
theorem dksX54_way_0 : cX54_way.data.toList.drop 0 = dktX54_way_0 := by decide +kernel
theorem dksX54_way_1 : cX54_way.data.toList.drop 24 = dktX54_way_1 := dk_seg dksX54_way_0 24 rfl rfl
theorem dksX54_way_2 : cX54_way.data.toList.drop 48 = dktX54_way_2 := dk_seg dksX54_way_1 24 rfl rfl
theorem dX54_way_0 : decode cX54_way 0 = .ok (.aload_n 0, 1) := dk_42 (dk_at dksX54_way_0 0 rfl rfl)
theorem dX54_way_1 : decode cX54_way 1 = .ok (.aload_n 0, 1) := dk_42 (dk_at dksX54_way_0 1 rfl rfl)
theorem dX54_way_2 : decode cX54_way 2 = .ok (.iconst 0, 1) := dk_3 (dk_at dksX54_way_0 2 rfl rfl)
theorem dX54_way_3 : decode cX54_way 3 = .ok (.iload_n 1, 1) := dk_27 (dk_at dksX54_way_0 3 rfl rfl)
theorem dX54_way_4 : decode cX54_way 4 = .ok (.invokevirtual 57, 3) := dk_182 0 57 (dk_at dksX54_way_0 4 rfl rfl)
theorem dX54_way_7 : decode cX54_way 7 = .ok (.ifCond .eq 26, 3) := dk_153 0 26 (dk_at dksX54_way_0 7 rfl rfl)
theorem dX54_way_10 : decode cX54_way 10 = .ok (.aload_n 0, 1) := dk_42 (dk_at dksX54_way_0 10 rfl rfl)
theorem dX54_way_11 : decode cX54_way 11 = .ok (.iconst 0, 1) := dk_3 (dk_at dksX54_way_0 11 rfl rfl)
theorem dX54_way_12 : decode cX54_way 12 = .ok (.iload_n 3, 1) := dk_29 (dk_at dksX54_way_0 12 rfl rfl)
theorem dX54_way_13 : decode cX54_way 13 = .ok (.invokevirtual 57, 3) := dk_182 0 57 (dk_at dksX54_way_0 13 rfl rfl)
theorem dX54_way_16 : decode cX54_way 16 = .ok (.ifCond .eq 17, 3) := dk_153 0 17 (dk_at dksX54_way_0 16 rfl rfl)
theorem dX54_way_19 : decode cX54_way 19 = .ok (.iload_n 2, 1) := dk_28 (dk_at dksX54_way_0 19 rfl rfl)
theorem dX54_way_20 : decode cX54_way 20 = .ok (.ifCond .lt 13, 3) := dk_155 0 13 (dk_at dksX54_way_0 20 rfl rfl)
theorem dX54_way_23 : decode cX54_way 23 = .ok (.iload_n 2, 1) := dk_28 (dk_at dksX54_way_0 23 rfl rfl)
theorem dX54_way_24 : decode cX54_way 24 = .ok (.bipush 6, 2) := dk_16 6 (dk_at dksX54_way_1 0 rfl rfl)
theorem dX54_way_26 : decode cX54_way 26 = .ok (.if_icmp .ge 7, 3) := dk_162 0 7 (dk_at dksX54_way_1 2 rfl rfl)
theorem dX54_way_29 : decode cX54_way 29 = .ok (.iconst 0, 1) := dk_3 (dk_at dksX54_way_1 5 rfl rfl)
theorem dX54_way_30 : decode cX54_way 30 = .ok (.goto 4, 3) := dk_167 0 4 (dk_at dksX54_way_1 6 rfl rfl)
theorem dX54_way_33 : decode cX54_way 33 = .ok (.iconst 1, 1) := dk_4 (dk_at dksX54_way_1 9 rfl rfl)
theorem dX54_way_34 : decode cX54_way 34 = .ok (.putfield 52, 3) := dk_181 0 52 (dk_at dksX54_way_1 10 rfl rfl)
theorem dX54_way_37 : decode cX54_way 37 = .ok (.aload_n 0, 1) := dk_42 (dk_at dksX54_way_1 13 rfl rfl)
theorem dX54_way_38 : decode cX54_way 38 = .ok (.getfield 52, 3) := dk_180 0 52 (dk_at dksX54_way_1 14 rfl rfl)
theorem dX54_way_41 : decode cX54_way 41 = .ok (.ifCond .ne 18, 3) := dk_154 0 18 (dk_at dksX54_way_1 17 rfl rfl)
theorem dX54_way_44 : decode cX54_way 44 = .ok (.aload_n 0, 1) := dk_42 (dk_at dksX54_way_1 20 rfl rfl)
theorem dX54_way_45 : decode cX54_way 45 = .ok (.iconst 2, 1) := dk_5 (dk_at dksX54_way_1 21 rfl rfl)
theorem dX54_way_46 : decode cX54_way 46 = .ok (.iload_n 1, 1) := dk_27 (dk_at dksX54_way_1 22 rfl rfl)
theorem dX54_way_47 : decode cX54_way 47 = .ok (.iload_n 2, 1) := dk_28 (dk_at dksX54_way_1 23 rfl rfl)
theorem dX54_way_48 : decode cX54_way 48 = .ok (.iload_n 3, 1) := dk_29 (dk_at dksX54_way_2 0 rfl rfl)
theorem dX54_way_49 : decode cX54_way 49 = .ok (.invokevirtual 134, 3) := dk_182 0 134 (dk_at dksX54_way_2 1 rfl rfl)
theorem dX54_way_52 : decode cX54_way 52 = .ok (.ifCond .eq 7, 3) := dk_153 0 7 (dk_at dksX54_way_2 4 rfl rfl)
theorem dX54_way_55 : decode cX54_way 55 = .ok (.iconst 1, 1) := dk_4 (dk_at dksX54_way_2 7 rfl rfl)
theorem dX54_way_56 : decode cX54_way 56 = .ok (.goto 4, 3) := dk_167 0 4 (dk_at dksX54_way_2 8 rfl rfl)
theorem dX54_way_59 : decode cX54_way 59 = .ok (.iconst 0, 1) := dk_3 (dk_at dksX54_way_2 11 rfl rfl)
theorem dX54_way_60 : decode cX54_way 60 = .ok (.ireturn, 1) := dk_172 (dk_at dksX54_way_2 12 rfl rfl)
abbrev cX54_option : ByteArray := prog_61_method_25_code
def yX54_option : MethodName := ⟨RX54, "option", "(II)Z"⟩
def dkwX54_option_0 : List UInt8 := [42, 3, 181, 0, 52, 42, 8, 27, 28, 3, 182, 0, 134, 172]
abbrev dktX54_option_0 : List UInt8 := dkwX54_option_0 ++ []
theorem dksX54_option_0 : cX54_option.data.toList.drop 0 = dktX54_option_0 := by decide +kernel
theorem dX54_option_0 : decode cX54_option 0 = .ok (.aload_n 0, 1) := dk_42 (dk_at dksX54_option_0 0 rfl rfl)
theorem dX54_option_1 : decode cX54_option 1 = .ok (.iconst 0, 1) := dk_3 (dk_at dksX54_option_0 1 rfl rfl)
theorem dX54_option_2 : decode cX54_option 2 = .ok (.putfield 52, 3) := dk_181 0 52 (dk_at dksX54_option_0 2 rfl rfl)
theorem dX54_option_5 : decode cX54_option 5 = .ok (.aload_n 0, 1) := dk_42 (dk_at dksX54_option_0 5 rfl rfl)
theorem dX54_option_6 : decode cX54_option 6 = .ok (.iconst 5, 1) := dk_8 (dk_at dksX54_option_0 6 rfl rfl)
theorem dX54_option_7 : decode cX54_option 7 = .ok (.iload_n 1, 1) := dk_27 (dk_at dksX54_option_0 7 rfl rfl)
theorem dX54_option_8 : decode cX54_option 8 = .ok (.iload_n 2, 1) := dk_28 (dk_at dksX54_option_0 8 rfl rfl)
theorem dX54_option_9 : decode cX54_option 9 = .ok (.iconst 0, 1) := dk_3 (dk_at dksX54_option_0 9 rfl rfl)
theorem dX54_option_10 : decode cX54_option 10 = .ok (.invokevirtual 134, 3) := dk_182 0 134 (dk_at dksX54_option_0 10 rfl rfl)
theorem dX54_option_13 : decode cX54_option 13 = .ok (.ireturn, 1) := dk_172 (dk_at dksX54_option_0 13 rfl rfl)
abbrev cX54_family : ByteArray := prog_61_method_38_code
def yX54_family : MethodName := ⟨RX54, "family", "(II)I"⟩
def dkwX54_family_4 : List UInt8 := [132, 4, 1, 132, 5, 1, 167, 255, 220, 2, 172]
abbrev dktX54_family_4 : List UInt8 := dkwX54_family_4 ++ []
def dkwX54_family_3 : List UInt8 := [162, 0, 31, 42, 21, 5, 27, 182, 0, 155, 153, 0, 15, 21, 4, 28, 160, 0, 6, 21, 5, 172]
abbrev dktX54_family_3 : List UInt8 := dkwX54_family_3 ++ dktX54_family_4
def dkwX54_family_2 : List UInt8 := [155, 0, 8, 27, 29, 161, 0, 5, 2, 172, 3, 54, 4, 3, 54, 5, 21, 5, 42, 180, 0, 7, 3, 46]
abbrev dktX54_family_2 : List UInt8 := dkwX54_family_2 ++ dktX54_family_3
def dkwX54_family_1 : List UInt8 := [158, 0, 12, 42, 21, 4, 182, 0, 152, 167, 0, 4, 4, 104, 62, 132, 4, 1, 167, 255, 225, 27]
abbrev dktX54_family_1 : List UInt8 := dkwX54_family_1 ++ dktX54_family_2
def dkwX54_family_0 : List UInt8 := [42, 3, 181, 0, 52, 4, 62, 3, 54, 4, 21, 4, 7, 162, 0, 31, 29, 42, 21, 4, 182, 0, 152]
abbrev dktX54_family_0 : List UInt8 := dkwX54_family_0 ++ dktX54_family_1
theorem dksX54_family_0 : cX54_family.data.toList.drop 0 = dktX54_family_0 := by decide +kernel
theorem dksX54_family_1 : cX54_family.data.toList.drop 23 = dktX54_family_1 := dk_seg dksX54_family_0 23 rfl rfl
theorem dksX54_family_2 : cX54_family.data.toList.drop 45 = dktX54_family_2 := dk_seg dksX54_family_1 22 rfl rfl
theorem dksX54_family_3 : cX54_family.data.toList.drop 69 = dktX54_family_3 := dk_seg dksX54_family_2 24 rfl rfl
theorem dksX54_family_4 : cX54_family.data.toList.drop 91 = dktX54_family_4 := dk_seg dksX54_family_3 22 rfl rfl
theorem dX54_family_0 : decode cX54_family 0 = .ok (.aload_n 0, 1) := dk_42 (dk_at dksX54_family_0 0 rfl rfl)
theorem dX54_family_1 : decode cX54_family 1 = .ok (.iconst 0, 1) := dk_3 (dk_at dksX54_family_0 1 rfl rfl)
theorem dX54_family_2 : decode cX54_family 2 = .ok (.putfield 52, 3) := dk_181 0 52 (dk_at dksX54_family_0 2 rfl rfl)
theorem dX54_family_5 : decode cX54_family 5 = .ok (.iconst 1, 1) := dk_4 (dk_at dksX54_family_0 5 rfl rfl)
theorem dX54_family_6 : decode cX54_family 6 = .ok (.istore_n 3, 1) := dk_62 (dk_at dksX54_family_0 6 rfl rfl)
theorem dX54_family_7 : decode cX54_family 7 = .ok (.iconst 0, 1) := dk_3 (dk_at dksX54_family_0 7 rfl rfl)
theorem dX54_family_8 : decode cX54_family 8 = .ok (.istore 4, 2) := dk_54 4 (dk_at dksX54_family_0 8 rfl rfl)
theorem dX54_family_10 : decode cX54_family 10 = .ok (.iload 4, 2) := dk_21 4 (dk_at dksX54_family_0 10 rfl rfl)
theorem dX54_family_12 : decode cX54_family 12 = .ok (.iconst 4, 1) := dk_7 (dk_at dksX54_family_0 12 rfl rfl)
theorem dX54_family_13 : decode cX54_family 13 = .ok (.if_icmp .ge 31, 3) := dk_162 0 31 (dk_at dksX54_family_0 13 rfl rfl)
theorem dX54_family_16 : decode cX54_family 16 = .ok (.iload_n 3, 1) := dk_29 (dk_at dksX54_family_0 16 rfl rfl)
theorem dX54_family_17 : decode cX54_family 17 = .ok (.aload_n 0, 1) := dk_42 (dk_at dksX54_family_0 17 rfl rfl)
theorem dX54_family_18 : decode cX54_family 18 = .ok (.iload 4, 2) := dk_21 4 (dk_at dksX54_family_0 18 rfl rfl)
theorem dX54_family_20 : decode cX54_family 20 = .ok (.invokevirtual 152, 3) := dk_182 0 152 (dk_at dksX54_family_0 20 rfl rfl)
theorem dX54_family_23 : decode cX54_family 23 = .ok (.ifCond .le 12, 3) := dk_158 0 12 (dk_at dksX54_family_1 0 rfl rfl)
theorem dX54_family_26 : decode cX54_family 26 = .ok (.aload_n 0, 1) := dk_42 (dk_at dksX54_family_1 3 rfl rfl)
theorem dX54_family_27 : decode cX54_family 27 = .ok (.iload 4, 2) := dk_21 4 (dk_at dksX54_family_1 4 rfl rfl)
theorem dX54_family_29 : decode cX54_family 29 = .ok (.invokevirtual 152, 3) := dk_182 0 152 (dk_at dksX54_family_1 6 rfl rfl)
theorem dX54_family_32 : decode cX54_family 32 = .ok (.goto 4, 3) := dk_167 0 4 (dk_at dksX54_family_1 9 rfl rfl)
theorem dX54_family_35 : decode cX54_family 35 = .ok (.iconst 1, 1) := dk_4 (dk_at dksX54_family_1 12 rfl rfl)
theorem dX54_family_36 : decode cX54_family 36 = .ok (.imul, 1) := dk_104 (dk_at dksX54_family_1 13 rfl rfl)
theorem dX54_family_37 : decode cX54_family 37 = .ok (.istore_n 3, 1) := dk_62 (dk_at dksX54_family_1 14 rfl rfl)
theorem dX54_family_38 : decode cX54_family 38 = .ok (.iinc 4 1, 3) := dk_132 4 1 (dk_at dksX54_family_1 15 rfl rfl)
theorem dX54_family_41 : decode cX54_family 41 = .ok (.goto (-31), 3) := dk_167 255 225 (dk_at dksX54_family_1 18 rfl rfl)
theorem dX54_family_44 : decode cX54_family 44 = .ok (.iload_n 1, 1) := dk_27 (dk_at dksX54_family_1 21 rfl rfl)
theorem dX54_family_45 : decode cX54_family 45 = .ok (.ifCond .lt 8, 3) := dk_155 0 8 (dk_at dksX54_family_2 0 rfl rfl)
theorem dX54_family_48 : decode cX54_family 48 = .ok (.iload_n 1, 1) := dk_27 (dk_at dksX54_family_2 3 rfl rfl)
theorem dX54_family_49 : decode cX54_family 49 = .ok (.iload_n 3, 1) := dk_29 (dk_at dksX54_family_2 4 rfl rfl)
theorem dX54_family_50 : decode cX54_family 50 = .ok (.if_icmp .lt 5, 3) := dk_161 0 5 (dk_at dksX54_family_2 5 rfl rfl)
theorem dX54_family_53 : decode cX54_family 53 = .ok (.iconst (-1), 1) := dk_2 (dk_at dksX54_family_2 8 rfl rfl)
theorem dX54_family_54 : decode cX54_family 54 = .ok (.ireturn, 1) := dk_172 (dk_at dksX54_family_2 9 rfl rfl)
theorem dX54_family_55 : decode cX54_family 55 = .ok (.iconst 0, 1) := dk_3 (dk_at dksX54_family_2 10 rfl rfl)
theorem dX54_family_56 : decode cX54_family 56 = .ok (.istore 4, 2) := dk_54 4 (dk_at dksX54_family_2 11 rfl rfl)
theorem dX54_family_58 : decode cX54_family 58 = .ok (.iconst 0, 1) := dk_3 (dk_at dksX54_family_2 13 rfl rfl)
theorem dX54_family_59 : decode cX54_family 59 = .ok (.istore 5, 2) := dk_54 5 (dk_at dksX54_family_2 14 rfl rfl)
theorem dX54_family_61 : decode cX54_family 61 = .ok (.iload 5, 2) := dk_21 5 (dk_at dksX54_family_2 16 rfl rfl)
theorem dX54_family_63 : decode cX54_family 63 = .ok (.aload_n 0, 1) := dk_42 (dk_at dksX54_family_2 18 rfl rfl)
theorem dX54_family_64 : decode cX54_family 64 = .ok (.getfield 7, 3) := dk_180 0 7 (dk_at dksX54_family_2 19 rfl rfl)
theorem dX54_family_67 : decode cX54_family 67 = .ok (.iconst 0, 1) := dk_3 (dk_at dksX54_family_2 22 rfl rfl)
theorem dX54_family_68 : decode cX54_family 68 = .ok (.iaload, 1) := dk_46 (dk_at dksX54_family_2 23 rfl rfl)
theorem dX54_family_69 : decode cX54_family 69 = .ok (.if_icmp .ge 31, 3) := dk_162 0 31 (dk_at dksX54_family_3 0 rfl rfl)
theorem dX54_family_72 : decode cX54_family 72 = .ok (.aload_n 0, 1) := dk_42 (dk_at dksX54_family_3 3 rfl rfl)
theorem dX54_family_73 : decode cX54_family 73 = .ok (.iload 5, 2) := dk_21 5 (dk_at dksX54_family_3 4 rfl rfl)
theorem dX54_family_75 : decode cX54_family 75 = .ok (.iload_n 1, 1) := dk_27 (dk_at dksX54_family_3 6 rfl rfl)
theorem dX54_family_76 : decode cX54_family 76 = .ok (.invokevirtual 155, 3) := dk_182 0 155 (dk_at dksX54_family_3 7 rfl rfl)
theorem dX54_family_79 : decode cX54_family 79 = .ok (.ifCond .eq 15, 3) := dk_153 0 15 (dk_at dksX54_family_3 10 rfl rfl)
theorem dX54_family_82 : decode cX54_family 82 = .ok (.iload 4, 2) := dk_21 4 (dk_at dksX54_family_3 13 rfl rfl)
theorem dX54_family_84 : decode cX54_family 84 = .ok (.iload_n 2, 1) := dk_28 (dk_at dksX54_family_3 15 rfl rfl)
theorem dX54_family_85 : decode cX54_family 85 = .ok (.if_icmp .ne 6, 3) := dk_160 0 6 (dk_at dksX54_family_3 16 rfl rfl)
theorem dX54_family_88 : decode cX54_family 88 = .ok (.iload 5, 2) := dk_21 5 (dk_at dksX54_family_3 19 rfl rfl)
theorem dX54_family_90 : decode cX54_family 90 = .ok (.ireturn, 1) := dk_172 (dk_at dksX54_family_3 21 rfl rfl)
theorem dX54_family_91 : decode cX54_family 91 = .ok (.iinc 4 1, 3) := dk_132 4 1 (dk_at dksX54_family_4 0 rfl rfl)
theorem dX54_family_94 : decode cX54_family 94 = .ok (.iinc 5 1, 3) := dk_132 5 1 (dk_at dksX54_family_4 3 rfl rfl)
theorem dX54_family_97 : decode cX54_family 97 = .ok (.goto (-36), 3) := dk_167 255 220 (dk_at dksX54_family_4 6 rfl rfl)
theorem dX54_family_100 : decode cX54_family 100 = .ok (.iconst (-1), 1) := dk_2 (dk_at dksX54_family_4 9 rfl rfl)
theorem dX54_family_101 : decode cX54_family 101 = .ok (.ireturn, 1) := dk_172 (dk_at dksX54_family_4 10 rfl rfl)
abbrev cX54_sizeOf : ByteArray := prog_61_method_36_code
def yX54_sizeOf : MethodName := ⟨RX54, "sizeOf", "(I)I"⟩
def dkwX54_sizeOf_1 : List UInt8 := [160, 0, 7, 4, 167, 0, 4, 3, 96, 61, 132, 3, 1, 167, 255, 225, 28, 172]
abbrev dktX54_sizeOf_1 : List UInt8 := dkwX54_sizeOf_1 ++ []
def dkwX54_sizeOf_0 : List UInt8 := [3, 61, 3, 62, 29, 42, 180, 0, 7, 3, 46, 162, 0, 27, 28, 42, 180, 0, 35, 29, 46, 27]
abbrev dktX54_sizeOf_0 : List UInt8 := dkwX54_sizeOf_0 ++ dktX54_sizeOf_1
theorem dksX54_sizeOf_0 : cX54_sizeOf.data.toList.drop 0 = dktX54_sizeOf_0 := by decide +kernel
theorem dksX54_sizeOf_1 : cX54_sizeOf.data.toList.drop 22 = dktX54_sizeOf_1 := dk_seg dksX54_sizeOf_0 22 rfl rfl
theorem dX54_sizeOf_0 : decode cX54_sizeOf 0 = .ok (.iconst 0, 1) := dk_3 (dk_at dksX54_sizeOf_0 0 rfl rfl)
theorem dX54_sizeOf_1 : decode cX54_sizeOf 1 = .ok (.istore_n 2, 1) := dk_61 (dk_at dksX54_sizeOf_0 1 rfl rfl)
theorem dX54_sizeOf_2 : decode cX54_sizeOf 2 = .ok (.iconst 0, 1) := dk_3 (dk_at dksX54_sizeOf_0 2 rfl rfl)
theorem dX54_sizeOf_3 : decode cX54_sizeOf 3 = .ok (.istore_n 3, 1) := dk_62 (dk_at dksX54_sizeOf_0 3 rfl rfl)
theorem dX54_sizeOf_4 : decode cX54_sizeOf 4 = .ok (.iload_n 3, 1) := dk_29 (dk_at dksX54_sizeOf_0 4 rfl rfl)
theorem dX54_sizeOf_5 : decode cX54_sizeOf 5 = .ok (.aload_n 0, 1) := dk_42 (dk_at dksX54_sizeOf_0 5 rfl rfl)
theorem dX54_sizeOf_6 : decode cX54_sizeOf 6 = .ok (.getfield 7, 3) := dk_180 0 7 (dk_at dksX54_sizeOf_0 6 rfl rfl)
theorem dX54_sizeOf_9 : decode cX54_sizeOf 9 = .ok (.iconst 0, 1) := dk_3 (dk_at dksX54_sizeOf_0 9 rfl rfl)
theorem dX54_sizeOf_10 : decode cX54_sizeOf 10 = .ok (.iaload, 1) := dk_46 (dk_at dksX54_sizeOf_0 10 rfl rfl)
theorem dX54_sizeOf_11 : decode cX54_sizeOf 11 = .ok (.if_icmp .ge 27, 3) := dk_162 0 27 (dk_at dksX54_sizeOf_0 11 rfl rfl)
theorem dX54_sizeOf_14 : decode cX54_sizeOf 14 = .ok (.iload_n 2, 1) := dk_28 (dk_at dksX54_sizeOf_0 14 rfl rfl)
theorem dX54_sizeOf_15 : decode cX54_sizeOf 15 = .ok (.aload_n 0, 1) := dk_42 (dk_at dksX54_sizeOf_0 15 rfl rfl)
theorem dX54_sizeOf_16 : decode cX54_sizeOf 16 = .ok (.getfield 35, 3) := dk_180 0 35 (dk_at dksX54_sizeOf_0 16 rfl rfl)
theorem dX54_sizeOf_19 : decode cX54_sizeOf 19 = .ok (.iload_n 3, 1) := dk_29 (dk_at dksX54_sizeOf_0 19 rfl rfl)
theorem dX54_sizeOf_20 : decode cX54_sizeOf 20 = .ok (.iaload, 1) := dk_46 (dk_at dksX54_sizeOf_0 20 rfl rfl)
theorem dX54_sizeOf_21 : decode cX54_sizeOf 21 = .ok (.iload_n 1, 1) := dk_27 (dk_at dksX54_sizeOf_0 21 rfl rfl)
theorem dX54_sizeOf_22 : decode cX54_sizeOf 22 = .ok (.if_icmp .ne 7, 3) := dk_160 0 7 (dk_at dksX54_sizeOf_1 0 rfl rfl)
theorem dX54_sizeOf_25 : decode cX54_sizeOf 25 = .ok (.iconst 1, 1) := dk_4 (dk_at dksX54_sizeOf_1 3 rfl rfl)
theorem dX54_sizeOf_26 : decode cX54_sizeOf 26 = .ok (.goto 4, 3) := dk_167 0 4 (dk_at dksX54_sizeOf_1 4 rfl rfl)
theorem dX54_sizeOf_29 : decode cX54_sizeOf 29 = .ok (.iconst 0, 1) := dk_3 (dk_at dksX54_sizeOf_1 7 rfl rfl)
theorem dX54_sizeOf_30 : decode cX54_sizeOf 30 = .ok (.iadd, 1) := dk_96 (dk_at dksX54_sizeOf_1 8 rfl rfl)
theorem dX54_sizeOf_31 : decode cX54_sizeOf 31 = .ok (.istore_n 2, 1) := dk_61 (dk_at dksX54_sizeOf_1 9 rfl rfl)
theorem dX54_sizeOf_32 : decode cX54_sizeOf 32 = .ok (.iinc 3 1, 3) := dk_132 3 1 (dk_at dksX54_sizeOf_1 10 rfl rfl)
theorem dX54_sizeOf_35 : decode cX54_sizeOf 35 = .ok (.goto (-31), 3) := dk_167 255 225 (dk_at dksX54_sizeOf_1 13 rfl rfl)
theorem dX54_sizeOf_38 : decode cX54_sizeOf 38 = .ok (.iload_n 2, 1) := dk_28 (dk_at dksX54_sizeOf_1 16 rfl rfl)
theorem dX54_sizeOf_39 : decode cX54_sizeOf 39 = .ok (.ireturn, 1) := dk_172 (dk_at dksX54_sizeOf_1 17 rfl rfl)
abbrev cX54_isIn : ByteArray := prog_61_method_39_code
def yX54_isIn : MethodName := ⟨RX54, "isIn", "(II)Z"⟩
def dkwX54_isIn_3 : List UInt8 := [182, 0, 152, 112, 42, 27, 182, 0, 158, 160, 0, 7, 4, 167, 0, 4, 3, 172]
abbrev dktX54_isIn_3 : List UInt8 := dkwX54_isIn_3 ++ []
def dkwX54_isIn_2 : List UInt8 := [167, 0, 4, 4, 104, 62, 132, 4, 1, 167, 255, 225, 28, 29, 108, 42, 42, 180, 0, 35, 27, 46]
abbrev dktX54_isIn_2 : List UInt8 := dkwX54_isIn_2 ++ dktX54_isIn_3
def dkwX54_isIn_1 : List UInt8 := [21, 4, 7, 162, 0, 31, 29, 42, 21, 4, 182, 0, 152, 158, 0, 12, 42, 21, 4, 182, 0, 152]
abbrev dktX54_isIn_1 : List UInt8 := dkwX54_isIn_1 ++ dktX54_isIn_2
def dkwX54_isIn_0 : List UInt8 := [42, 180, 0, 35, 27, 46, 156, 0, 5, 4, 172, 4, 62, 42, 180, 0, 35, 27, 46, 4, 96, 54, 4]
abbrev dktX54_isIn_0 : List UInt8 := dkwX54_isIn_0 ++ dktX54_isIn_1
theorem dksX54_isIn_0 : cX54_isIn.data.toList.drop 0 = dktX54_isIn_0 := by decide +kernel
theorem dksX54_isIn_1 : cX54_isIn.data.toList.drop 23 = dktX54_isIn_1 := dk_seg dksX54_isIn_0 23 rfl rfl
theorem dksX54_isIn_2 : cX54_isIn.data.toList.drop 45 = dktX54_isIn_2 := dk_seg dksX54_isIn_1 22 rfl rfl
theorem dksX54_isIn_3 : cX54_isIn.data.toList.drop 67 = dktX54_isIn_3 := dk_seg dksX54_isIn_2 22 rfl rfl
theorem dX54_isIn_0 : decode cX54_isIn 0 = .ok (.aload_n 0, 1) := dk_42 (dk_at dksX54_isIn_0 0 rfl rfl)
theorem dX54_isIn_1 : decode cX54_isIn 1 = .ok (.getfield 35, 3) := dk_180 0 35 (dk_at dksX54_isIn_0 1 rfl rfl)
theorem dX54_isIn_4 : decode cX54_isIn 4 = .ok (.iload_n 1, 1) := dk_27 (dk_at dksX54_isIn_0 4 rfl rfl)
theorem dX54_isIn_5 : decode cX54_isIn 5 = .ok (.iaload, 1) := dk_46 (dk_at dksX54_isIn_0 5 rfl rfl)
theorem dX54_isIn_6 : decode cX54_isIn 6 = .ok (.ifCond .ge 5, 3) := dk_156 0 5 (dk_at dksX54_isIn_0 6 rfl rfl)
theorem dX54_isIn_9 : decode cX54_isIn 9 = .ok (.iconst 1, 1) := dk_4 (dk_at dksX54_isIn_0 9 rfl rfl)
theorem dX54_isIn_10 : decode cX54_isIn 10 = .ok (.ireturn, 1) := dk_172 (dk_at dksX54_isIn_0 10 rfl rfl)
theorem dX54_isIn_11 : decode cX54_isIn 11 = .ok (.iconst 1, 1) := dk_4 (dk_at dksX54_isIn_0 11 rfl rfl)
theorem dX54_isIn_12 : decode cX54_isIn 12 = .ok (.istore_n 3, 1) := dk_62 (dk_at dksX54_isIn_0 12 rfl rfl)
theorem dX54_isIn_13 : decode cX54_isIn 13 = .ok (.aload_n 0, 1) := dk_42 (dk_at dksX54_isIn_0 13 rfl rfl)
theorem dX54_isIn_14 : decode cX54_isIn 14 = .ok (.getfield 35, 3) := dk_180 0 35 (dk_at dksX54_isIn_0 14 rfl rfl)
theorem dX54_isIn_17 : decode cX54_isIn 17 = .ok (.iload_n 1, 1) := dk_27 (dk_at dksX54_isIn_0 17 rfl rfl)
theorem dX54_isIn_18 : decode cX54_isIn 18 = .ok (.iaload, 1) := dk_46 (dk_at dksX54_isIn_0 18 rfl rfl)
theorem dX54_isIn_19 : decode cX54_isIn 19 = .ok (.iconst 1, 1) := dk_4 (dk_at dksX54_isIn_0 19 rfl rfl)
theorem dX54_isIn_20 : decode cX54_isIn 20 = .ok (.iadd, 1) := dk_96 (dk_at dksX54_isIn_0 20 rfl rfl)
theorem dX54_isIn_21 : decode cX54_isIn 21 = .ok (.istore 4, 2) := dk_54 4 (dk_at dksX54_isIn_0 21 rfl rfl)
theorem dX54_isIn_23 : decode cX54_isIn 23 = .ok (.iload 4, 2) := dk_21 4 (dk_at dksX54_isIn_1 0 rfl rfl)
theorem dX54_isIn_25 : decode cX54_isIn 25 = .ok (.iconst 4, 1) := dk_7 (dk_at dksX54_isIn_1 2 rfl rfl)
theorem dX54_isIn_26 : decode cX54_isIn 26 = .ok (.if_icmp .ge 31, 3) := dk_162 0 31 (dk_at dksX54_isIn_1 3 rfl rfl)
theorem dX54_isIn_29 : decode cX54_isIn 29 = .ok (.iload_n 3, 1) := dk_29 (dk_at dksX54_isIn_1 6 rfl rfl)
theorem dX54_isIn_30 : decode cX54_isIn 30 = .ok (.aload_n 0, 1) := dk_42 (dk_at dksX54_isIn_1 7 rfl rfl)
theorem dX54_isIn_31 : decode cX54_isIn 31 = .ok (.iload 4, 2) := dk_21 4 (dk_at dksX54_isIn_1 8 rfl rfl)
theorem dX54_isIn_33 : decode cX54_isIn 33 = .ok (.invokevirtual 152, 3) := dk_182 0 152 (dk_at dksX54_isIn_1 10 rfl rfl)
theorem dX54_isIn_36 : decode cX54_isIn 36 = .ok (.ifCond .le 12, 3) := dk_158 0 12 (dk_at dksX54_isIn_1 13 rfl rfl)
theorem dX54_isIn_39 : decode cX54_isIn 39 = .ok (.aload_n 0, 1) := dk_42 (dk_at dksX54_isIn_1 16 rfl rfl)
theorem dX54_isIn_40 : decode cX54_isIn 40 = .ok (.iload 4, 2) := dk_21 4 (dk_at dksX54_isIn_1 17 rfl rfl)
theorem dX54_isIn_42 : decode cX54_isIn 42 = .ok (.invokevirtual 152, 3) := dk_182 0 152 (dk_at dksX54_isIn_1 19 rfl rfl)
theorem dX54_isIn_45 : decode cX54_isIn 45 = .ok (.goto 4, 3) := dk_167 0 4 (dk_at dksX54_isIn_2 0 rfl rfl)
theorem dX54_isIn_48 : decode cX54_isIn 48 = .ok (.iconst 1, 1) := dk_4 (dk_at dksX54_isIn_2 3 rfl rfl)
theorem dX54_isIn_49 : decode cX54_isIn 49 = .ok (.imul, 1) := dk_104 (dk_at dksX54_isIn_2 4 rfl rfl)
theorem dX54_isIn_50 : decode cX54_isIn 50 = .ok (.istore_n 3, 1) := dk_62 (dk_at dksX54_isIn_2 5 rfl rfl)
theorem dX54_isIn_51 : decode cX54_isIn 51 = .ok (.iinc 4 1, 3) := dk_132 4 1 (dk_at dksX54_isIn_2 6 rfl rfl)
theorem dX54_isIn_54 : decode cX54_isIn 54 = .ok (.goto (-31), 3) := dk_167 255 225 (dk_at dksX54_isIn_2 9 rfl rfl)
theorem dX54_isIn_57 : decode cX54_isIn 57 = .ok (.iload_n 2, 1) := dk_28 (dk_at dksX54_isIn_2 12 rfl rfl)
theorem dX54_isIn_58 : decode cX54_isIn 58 = .ok (.iload_n 3, 1) := dk_29 (dk_at dksX54_isIn_2 13 rfl rfl)
theorem dX54_isIn_59 : decode cX54_isIn 59 = .ok (.idiv, 1) := dk_108 (dk_at dksX54_isIn_2 14 rfl rfl)
theorem dX54_isIn_60 : decode cX54_isIn 60 = .ok (.aload_n 0, 1) := dk_42 (dk_at dksX54_isIn_2 15 rfl rfl)
theorem dX54_isIn_61 : decode cX54_isIn 61 = .ok (.aload_n 0, 1) := dk_42 (dk_at dksX54_isIn_2 16 rfl rfl)
theorem dX54_isIn_62 : decode cX54_isIn 62 = .ok (.getfield 35, 3) := dk_180 0 35 (dk_at dksX54_isIn_2 17 rfl rfl)
theorem dX54_isIn_65 : decode cX54_isIn 65 = .ok (.iload_n 1, 1) := dk_27 (dk_at dksX54_isIn_2 20 rfl rfl)
theorem dX54_isIn_66 : decode cX54_isIn 66 = .ok (.iaload, 1) := dk_46 (dk_at dksX54_isIn_2 21 rfl rfl)
theorem dX54_isIn_67 : decode cX54_isIn 67 = .ok (.invokevirtual 152, 3) := dk_182 0 152 (dk_at dksX54_isIn_3 0 rfl rfl)
theorem dX54_isIn_70 : decode cX54_isIn 70 = .ok (.irem, 1) := dk_112 (dk_at dksX54_isIn_3 3 rfl rfl)
theorem dX54_isIn_71 : decode cX54_isIn 71 = .ok (.aload_n 0, 1) := dk_42 (dk_at dksX54_isIn_3 4 rfl rfl)
theorem dX54_isIn_72 : decode cX54_isIn 72 = .ok (.iload_n 1, 1) := dk_27 (dk_at dksX54_isIn_3 5 rfl rfl)
theorem dX54_isIn_73 : decode cX54_isIn 73 = .ok (.invokevirtual 158, 3) := dk_182 0 158 (dk_at dksX54_isIn_3 6 rfl rfl)
theorem dX54_isIn_76 : decode cX54_isIn 76 = .ok (.if_icmp .ne 7, 3) := dk_160 0 7 (dk_at dksX54_isIn_3 9 rfl rfl)
theorem dX54_isIn_79 : decode cX54_isIn 79 = .ok (.iconst 1, 1) := dk_4 (dk_at dksX54_isIn_3 12 rfl rfl)
theorem dX54_isIn_80 : decode cX54_isIn 80 = .ok (.goto 4, 3) := dk_167 0 4 (dk_at dksX54_isIn_3 13 rfl rfl)
theorem dX54_isIn_83 : decode cX54_isIn 83 = .ok (.iconst 0, 1) := dk_3 (dk_at dksX54_isIn_3 16 rfl rfl)
theorem dX54_isIn_84 : decode cX54_isIn 84 = .ok (.ireturn, 1) := dk_172 (dk_at dksX54_isIn_3 17 rfl rfl)
abbrev cX54_orderOf : ByteArray := prog_61_method_37_code
def yX54_orderOf : MethodName := ⟨RX54, "orderOf", "(I)I"⟩
def dkwX54_orderOf_1 : List UInt8 := [160, 0, 7, 4, 167, 0, 4, 3, 96, 61, 132, 3, 1, 167, 255, 225, 28, 172]
abbrev dktX54_orderOf_1 : List UInt8 := dkwX54_orderOf_1 ++ []
def dkwX54_orderOf_0 : List UInt8 := [3, 61, 3, 62, 29, 27, 162, 0, 32, 28, 42, 180, 0, 35, 29, 46, 42, 180, 0, 35, 27, 46]
abbrev dktX54_orderOf_0 : List UInt8 := dkwX54_orderOf_0 ++ dktX54_orderOf_1
theorem dksX54_orderOf_0 : cX54_orderOf.data.toList.drop 0 = dktX54_orderOf_0 := by decide +kernel
theorem dksX54_orderOf_1 : cX54_orderOf.data.toList.drop 22 = dktX54_orderOf_1 := dk_seg dksX54_orderOf_0 22 rfl rfl
theorem dX54_orderOf_0 : decode cX54_orderOf 0 = .ok (.iconst 0, 1) := dk_3 (dk_at dksX54_orderOf_0 0 rfl rfl)
theorem dX54_orderOf_1 : decode cX54_orderOf 1 = .ok (.istore_n 2, 1) := dk_61 (dk_at dksX54_orderOf_0 1 rfl rfl)
theorem dX54_orderOf_2 : decode cX54_orderOf 2 = .ok (.iconst 0, 1) := dk_3 (dk_at dksX54_orderOf_0 2 rfl rfl)
theorem dX54_orderOf_3 : decode cX54_orderOf 3 = .ok (.istore_n 3, 1) := dk_62 (dk_at dksX54_orderOf_0 3 rfl rfl)
theorem dX54_orderOf_4 : decode cX54_orderOf 4 = .ok (.iload_n 3, 1) := dk_29 (dk_at dksX54_orderOf_0 4 rfl rfl)
theorem dX54_orderOf_5 : decode cX54_orderOf 5 = .ok (.iload_n 1, 1) := dk_27 (dk_at dksX54_orderOf_0 5 rfl rfl)
theorem dX54_orderOf_6 : decode cX54_orderOf 6 = .ok (.if_icmp .ge 32, 3) := dk_162 0 32 (dk_at dksX54_orderOf_0 6 rfl rfl)
theorem dX54_orderOf_9 : decode cX54_orderOf 9 = .ok (.iload_n 2, 1) := dk_28 (dk_at dksX54_orderOf_0 9 rfl rfl)
theorem dX54_orderOf_10 : decode cX54_orderOf 10 = .ok (.aload_n 0, 1) := dk_42 (dk_at dksX54_orderOf_0 10 rfl rfl)
theorem dX54_orderOf_11 : decode cX54_orderOf 11 = .ok (.getfield 35, 3) := dk_180 0 35 (dk_at dksX54_orderOf_0 11 rfl rfl)
theorem dX54_orderOf_14 : decode cX54_orderOf 14 = .ok (.iload_n 3, 1) := dk_29 (dk_at dksX54_orderOf_0 14 rfl rfl)
theorem dX54_orderOf_15 : decode cX54_orderOf 15 = .ok (.iaload, 1) := dk_46 (dk_at dksX54_orderOf_0 15 rfl rfl)
theorem dX54_orderOf_16 : decode cX54_orderOf 16 = .ok (.aload_n 0, 1) := dk_42 (dk_at dksX54_orderOf_0 16 rfl rfl)
theorem dX54_orderOf_17 : decode cX54_orderOf 17 = .ok (.getfield 35, 3) := dk_180 0 35 (dk_at dksX54_orderOf_0 17 rfl rfl)
theorem dX54_orderOf_20 : decode cX54_orderOf 20 = .ok (.iload_n 1, 1) := dk_27 (dk_at dksX54_orderOf_0 20 rfl rfl)
theorem dX54_orderOf_21 : decode cX54_orderOf 21 = .ok (.iaload, 1) := dk_46 (dk_at dksX54_orderOf_0 21 rfl rfl)
theorem dX54_orderOf_22 : decode cX54_orderOf 22 = .ok (.if_icmp .ne 7, 3) := dk_160 0 7 (dk_at dksX54_orderOf_1 0 rfl rfl)
theorem dX54_orderOf_25 : decode cX54_orderOf 25 = .ok (.iconst 1, 1) := dk_4 (dk_at dksX54_orderOf_1 3 rfl rfl)
theorem dX54_orderOf_26 : decode cX54_orderOf 26 = .ok (.goto 4, 3) := dk_167 0 4 (dk_at dksX54_orderOf_1 4 rfl rfl)
theorem dX54_orderOf_29 : decode cX54_orderOf 29 = .ok (.iconst 0, 1) := dk_3 (dk_at dksX54_orderOf_1 7 rfl rfl)
theorem dX54_orderOf_30 : decode cX54_orderOf 30 = .ok (.iadd, 1) := dk_96 (dk_at dksX54_orderOf_1 8 rfl rfl)
theorem dX54_orderOf_31 : decode cX54_orderOf 31 = .ok (.istore_n 2, 1) := dk_61 (dk_at dksX54_orderOf_1 9 rfl rfl)
theorem dX54_orderOf_32 : decode cX54_orderOf 32 = .ok (.iinc 3 1, 3) := dk_132 3 1 (dk_at dksX54_orderOf_1 10 rfl rfl)
theorem dX54_orderOf_35 : decode cX54_orderOf 35 = .ok (.goto (-31), 3) := dk_167 255 225 (dk_at dksX54_orderOf_1 13 rfl rfl)
theorem dX54_orderOf_38 : decode cX54_orderOf 38 = .ok (.iload_n 2, 1) := dk_28 (dk_at dksX54_orderOf_1 16 rfl rfl)
theorem dX54_orderOf_39 : decode cX54_orderOf 39 = .ok (.ireturn, 1) := dk_172 (dk_at dksX54_orderOf_1 17 rfl rfl)
abbrev cX54_holds : ByteArray := prog_61_method_41_code
def yX54_holds : MethodName := ⟨RX54, "holds", "(III)Z"⟩
def dkwX54_holds_1 : List UInt8 := [27, 29, 133, 182, 0, 161, 28, 184, 0, 138, 153, 0, 7, 4, 167, 0, 4, 3, 172]
abbrev dktX54_holds_1 : List UInt8 := dkwX54_holds_1 ++ []
def dkwX54_holds_0 : List UInt8 := [42, 3, 181, 0, 52, 42, 3, 27, 182, 0, 57, 153, 0, 30, 42, 3, 28, 182, 0, 57, 153, 0, 21, 42]
abbrev dktX54_holds_0 : List UInt8 := dkwX54_holds_0 ++ dktX54_holds_1
theorem dksX54_holds_0 : cX54_holds.data.toList.drop 0 = dktX54_holds_0 := by decide +kernel
theorem dksX54_holds_1 : cX54_holds.data.toList.drop 24 = dktX54_holds_1 := dk_seg dksX54_holds_0 24 rfl rfl
theorem dX54_holds_0 : decode cX54_holds 0 = .ok (.aload_n 0, 1) := dk_42 (dk_at dksX54_holds_0 0 rfl rfl)
theorem dX54_holds_1 : decode cX54_holds 1 = .ok (.iconst 0, 1) := dk_3 (dk_at dksX54_holds_0 1 rfl rfl)
theorem dX54_holds_2 : decode cX54_holds 2 = .ok (.putfield 52, 3) := dk_181 0 52 (dk_at dksX54_holds_0 2 rfl rfl)
theorem dX54_holds_5 : decode cX54_holds 5 = .ok (.aload_n 0, 1) := dk_42 (dk_at dksX54_holds_0 5 rfl rfl)
theorem dX54_holds_6 : decode cX54_holds 6 = .ok (.iconst 0, 1) := dk_3 (dk_at dksX54_holds_0 6 rfl rfl)
theorem dX54_holds_7 : decode cX54_holds 7 = .ok (.iload_n 1, 1) := dk_27 (dk_at dksX54_holds_0 7 rfl rfl)
theorem dX54_holds_8 : decode cX54_holds 8 = .ok (.invokevirtual 57, 3) := dk_182 0 57 (dk_at dksX54_holds_0 8 rfl rfl)
theorem dX54_holds_11 : decode cX54_holds 11 = .ok (.ifCond .eq 30, 3) := dk_153 0 30 (dk_at dksX54_holds_0 11 rfl rfl)
theorem dX54_holds_14 : decode cX54_holds 14 = .ok (.aload_n 0, 1) := dk_42 (dk_at dksX54_holds_0 14 rfl rfl)
theorem dX54_holds_15 : decode cX54_holds 15 = .ok (.iconst 0, 1) := dk_3 (dk_at dksX54_holds_0 15 rfl rfl)
theorem dX54_holds_16 : decode cX54_holds 16 = .ok (.iload_n 2, 1) := dk_28 (dk_at dksX54_holds_0 16 rfl rfl)
theorem dX54_holds_17 : decode cX54_holds 17 = .ok (.invokevirtual 57, 3) := dk_182 0 57 (dk_at dksX54_holds_0 17 rfl rfl)
theorem dX54_holds_20 : decode cX54_holds 20 = .ok (.ifCond .eq 21, 3) := dk_153 0 21 (dk_at dksX54_holds_0 20 rfl rfl)
theorem dX54_holds_23 : decode cX54_holds 23 = .ok (.aload_n 0, 1) := dk_42 (dk_at dksX54_holds_0 23 rfl rfl)
theorem dX54_holds_24 : decode cX54_holds 24 = .ok (.iload_n 1, 1) := dk_27 (dk_at dksX54_holds_1 0 rfl rfl)
theorem dX54_holds_25 : decode cX54_holds 25 = .ok (.iload_n 3, 1) := dk_29 (dk_at dksX54_holds_1 1 rfl rfl)
theorem dX54_holds_26 : decode cX54_holds 26 = .ok (.i2l, 1) := dk_133 (dk_at dksX54_holds_1 2 rfl rfl)
theorem dX54_holds_27 : decode cX54_holds 27 = .ok (.invokevirtual 161, 3) := dk_182 0 161 (dk_at dksX54_holds_1 3 rfl rfl)
theorem dX54_holds_30 : decode cX54_holds 30 = .ok (.iload_n 2, 1) := dk_28 (dk_at dksX54_holds_1 6 rfl rfl)
theorem dX54_holds_31 : decode cX54_holds 31 = .ok (.invokestatic 138, 3) := dk_184 0 138 (dk_at dksX54_holds_1 7 rfl rfl)
theorem dX54_holds_34 : decode cX54_holds 34 = .ok (.ifCond .eq 7, 3) := dk_153 0 7 (dk_at dksX54_holds_1 10 rfl rfl)
theorem dX54_holds_37 : decode cX54_holds 37 = .ok (.iconst 1, 1) := dk_4 (dk_at dksX54_holds_1 13 rfl rfl)
theorem dX54_holds_38 : decode cX54_holds 38 = .ok (.goto 4, 3) := dk_167 0 4 (dk_at dksX54_holds_1 14 rfl rfl)
theorem dX54_holds_41 : decode cX54_holds 41 = .ok (.iconst 0, 1) := dk_3 (dk_at dksX54_holds_1 17 rfl rfl)
theorem dX54_holds_42 : decode cX54_holds 42 = .ok (.ireturn, 1) := dk_172 (dk_at dksX54_holds_1 18 rfl rfl)
abbrev cX54_pieceOf : ByteArray := prog_61_method_40_code
def yX54_pieceOf : MethodName := ⟨RX54, "pieceOf", "(IJ)J"⟩
def dkwX54_pieceOf_6 : List UInt8 := [167, 255, 134, 22, 4, 173]
abbrev dktX54_pieceOf_6 : List UInt8 := dkwX54_pieceOf_6 ++ []
def dkwX54_pieceOf_5 : List UInt8 := [21, 8, 121, 10, 21, 9, 121, 129, 167, 0, 4, 9, 129, 55, 4, 132, 7, 1, 167, 255, 150, 132, 6, 1]
abbrev dktX54_pieceOf_5 : List UInt8 := dkwX54_pieceOf_5 ++ dktX54_pieceOf_6
def dkwX54_pieceOf_4 : List UInt8 := [21, 9, 184, 0, 138, 153, 0, 7, 4, 167, 0, 4, 3, 54, 10, 22, 4, 21, 10, 153, 0, 15, 10]
abbrev dktX54_pieceOf_4 : List UInt8 := dkwX54_pieceOf_4 ++ dktX54_pieceOf_5
def dkwX54_pieceOf_3 : List UInt8 := [154, 0, 36, 32, 21, 9, 184, 0, 138, 154, 0, 27, 22, 4, 21, 8, 184, 0, 138, 154, 0, 13, 22, 4]
abbrev dktX54_pieceOf_3 : List UInt8 := dkwX54_pieceOf_3 ++ dktX54_pieceOf_4
def dkwX54_pieceOf_2 : List UInt8 := [104, 46, 54, 8, 42, 180, 0, 29, 6, 21, 7, 104, 4, 96, 46, 54, 9, 32, 21, 8, 184, 0, 138]
abbrev dktX54_pieceOf_2 : List UInt8 := dkwX54_pieceOf_2 ++ dktX54_pieceOf_3
def dkwX54_pieceOf_1 : List UInt8 := [162, 0, 121, 3, 54, 7, 21, 7, 42, 180, 0, 26, 3, 46, 162, 0, 101, 42, 180, 0, 29, 6, 21, 7]
abbrev dktX54_pieceOf_1 : List UInt8 := dkwX54_pieceOf_1 ++ dktX54_pieceOf_2
def dkwX54_pieceOf_0 : List UInt8 := [32, 27, 184, 0, 138, 153, 0, 7, 9, 167, 0, 6, 10, 27, 121, 55, 4, 3, 54, 6, 21, 6, 16, 10]
abbrev dktX54_pieceOf_0 : List UInt8 := dkwX54_pieceOf_0 ++ dktX54_pieceOf_1
theorem dksX54_pieceOf_0 : cX54_pieceOf.data.toList.drop 0 = dktX54_pieceOf_0 := by decide +kernel
theorem dksX54_pieceOf_1 : cX54_pieceOf.data.toList.drop 24 = dktX54_pieceOf_1 := dk_seg dksX54_pieceOf_0 24 rfl rfl
theorem dksX54_pieceOf_2 : cX54_pieceOf.data.toList.drop 48 = dktX54_pieceOf_2 := dk_seg dksX54_pieceOf_1 24 rfl rfl
theorem dksX54_pieceOf_3 : cX54_pieceOf.data.toList.drop 71 = dktX54_pieceOf_3 := dk_seg dksX54_pieceOf_2 23 rfl rfl
theorem dksX54_pieceOf_4 : cX54_pieceOf.data.toList.drop 95 = dktX54_pieceOf_4 := dk_seg dksX54_pieceOf_3 24 rfl rfl
theorem dksX54_pieceOf_5 : cX54_pieceOf.data.toList.drop 118 = dktX54_pieceOf_5 := dk_seg dksX54_pieceOf_4 23 rfl rfl
theorem dksX54_pieceOf_6 : cX54_pieceOf.data.toList.drop 142 = dktX54_pieceOf_6 := dk_seg dksX54_pieceOf_5 24 rfl rfl
theorem dX54_pieceOf_0 : decode cX54_pieceOf 0 = .ok (.lload_n 2, 1) := dk_32 (dk_at dksX54_pieceOf_0 0 rfl rfl)
theorem dX54_pieceOf_1 : decode cX54_pieceOf 1 = .ok (.iload_n 1, 1) := dk_27 (dk_at dksX54_pieceOf_0 1 rfl rfl)
theorem dX54_pieceOf_2 : decode cX54_pieceOf 2 = .ok (.invokestatic 138, 3) := dk_184 0 138 (dk_at dksX54_pieceOf_0 2 rfl rfl)
theorem dX54_pieceOf_5 : decode cX54_pieceOf 5 = .ok (.ifCond .eq 7, 3) := dk_153 0 7 (dk_at dksX54_pieceOf_0 5 rfl rfl)
theorem dX54_pieceOf_8 : decode cX54_pieceOf 8 = .ok (.lconst 0, 1) := dk_9 (dk_at dksX54_pieceOf_0 8 rfl rfl)
theorem dX54_pieceOf_9 : decode cX54_pieceOf 9 = .ok (.goto 6, 3) := dk_167 0 6 (dk_at dksX54_pieceOf_0 9 rfl rfl)
theorem dX54_pieceOf_12 : decode cX54_pieceOf 12 = .ok (.lconst 1, 1) := dk_10 (dk_at dksX54_pieceOf_0 12 rfl rfl)
theorem dX54_pieceOf_13 : decode cX54_pieceOf 13 = .ok (.iload_n 1, 1) := dk_27 (dk_at dksX54_pieceOf_0 13 rfl rfl)
theorem dX54_pieceOf_14 : decode cX54_pieceOf 14 = .ok (.lshl, 1) := dk_121 (dk_at dksX54_pieceOf_0 14 rfl rfl)
theorem dX54_pieceOf_15 : decode cX54_pieceOf 15 = .ok (.lstore 4, 2) := dk_55 4 (dk_at dksX54_pieceOf_0 15 rfl rfl)
theorem dX54_pieceOf_17 : decode cX54_pieceOf 17 = .ok (.iconst 0, 1) := dk_3 (dk_at dksX54_pieceOf_0 17 rfl rfl)
theorem dX54_pieceOf_18 : decode cX54_pieceOf 18 = .ok (.istore 6, 2) := dk_54 6 (dk_at dksX54_pieceOf_0 18 rfl rfl)
theorem dX54_pieceOf_20 : decode cX54_pieceOf 20 = .ok (.iload 6, 2) := dk_21 6 (dk_at dksX54_pieceOf_0 20 rfl rfl)
theorem dX54_pieceOf_22 : decode cX54_pieceOf 22 = .ok (.bipush 10, 2) := dk_16 10 (dk_at dksX54_pieceOf_0 22 rfl rfl)
theorem dX54_pieceOf_24 : decode cX54_pieceOf 24 = .ok (.if_icmp .ge 121, 3) := dk_162 0 121 (dk_at dksX54_pieceOf_1 0 rfl rfl)
theorem dX54_pieceOf_27 : decode cX54_pieceOf 27 = .ok (.iconst 0, 1) := dk_3 (dk_at dksX54_pieceOf_1 3 rfl rfl)
theorem dX54_pieceOf_28 : decode cX54_pieceOf 28 = .ok (.istore 7, 2) := dk_54 7 (dk_at dksX54_pieceOf_1 4 rfl rfl)
theorem dX54_pieceOf_30 : decode cX54_pieceOf 30 = .ok (.iload 7, 2) := dk_21 7 (dk_at dksX54_pieceOf_1 6 rfl rfl)
theorem dX54_pieceOf_32 : decode cX54_pieceOf 32 = .ok (.aload_n 0, 1) := dk_42 (dk_at dksX54_pieceOf_1 8 rfl rfl)
theorem dX54_pieceOf_33 : decode cX54_pieceOf 33 = .ok (.getfield 26, 3) := dk_180 0 26 (dk_at dksX54_pieceOf_1 9 rfl rfl)
theorem dX54_pieceOf_36 : decode cX54_pieceOf 36 = .ok (.iconst 0, 1) := dk_3 (dk_at dksX54_pieceOf_1 12 rfl rfl)
theorem dX54_pieceOf_37 : decode cX54_pieceOf 37 = .ok (.iaload, 1) := dk_46 (dk_at dksX54_pieceOf_1 13 rfl rfl)
theorem dX54_pieceOf_38 : decode cX54_pieceOf 38 = .ok (.if_icmp .ge 101, 3) := dk_162 0 101 (dk_at dksX54_pieceOf_1 14 rfl rfl)
theorem dX54_pieceOf_41 : decode cX54_pieceOf 41 = .ok (.aload_n 0, 1) := dk_42 (dk_at dksX54_pieceOf_1 17 rfl rfl)
theorem dX54_pieceOf_42 : decode cX54_pieceOf 42 = .ok (.getfield 29, 3) := dk_180 0 29 (dk_at dksX54_pieceOf_1 18 rfl rfl)
theorem dX54_pieceOf_45 : decode cX54_pieceOf 45 = .ok (.iconst 3, 1) := dk_6 (dk_at dksX54_pieceOf_1 21 rfl rfl)
theorem dX54_pieceOf_46 : decode cX54_pieceOf 46 = .ok (.iload 7, 2) := dk_21 7 (dk_at dksX54_pieceOf_1 22 rfl rfl)
theorem dX54_pieceOf_48 : decode cX54_pieceOf 48 = .ok (.imul, 1) := dk_104 (dk_at dksX54_pieceOf_2 0 rfl rfl)
theorem dX54_pieceOf_49 : decode cX54_pieceOf 49 = .ok (.iaload, 1) := dk_46 (dk_at dksX54_pieceOf_2 1 rfl rfl)
theorem dX54_pieceOf_50 : decode cX54_pieceOf 50 = .ok (.istore 8, 2) := dk_54 8 (dk_at dksX54_pieceOf_2 2 rfl rfl)
theorem dX54_pieceOf_52 : decode cX54_pieceOf 52 = .ok (.aload_n 0, 1) := dk_42 (dk_at dksX54_pieceOf_2 4 rfl rfl)
theorem dX54_pieceOf_53 : decode cX54_pieceOf 53 = .ok (.getfield 29, 3) := dk_180 0 29 (dk_at dksX54_pieceOf_2 5 rfl rfl)
theorem dX54_pieceOf_56 : decode cX54_pieceOf 56 = .ok (.iconst 3, 1) := dk_6 (dk_at dksX54_pieceOf_2 8 rfl rfl)
theorem dX54_pieceOf_57 : decode cX54_pieceOf 57 = .ok (.iload 7, 2) := dk_21 7 (dk_at dksX54_pieceOf_2 9 rfl rfl)
theorem dX54_pieceOf_59 : decode cX54_pieceOf 59 = .ok (.imul, 1) := dk_104 (dk_at dksX54_pieceOf_2 11 rfl rfl)
theorem dX54_pieceOf_60 : decode cX54_pieceOf 60 = .ok (.iconst 1, 1) := dk_4 (dk_at dksX54_pieceOf_2 12 rfl rfl)
theorem dX54_pieceOf_61 : decode cX54_pieceOf 61 = .ok (.iadd, 1) := dk_96 (dk_at dksX54_pieceOf_2 13 rfl rfl)
theorem dX54_pieceOf_62 : decode cX54_pieceOf 62 = .ok (.iaload, 1) := dk_46 (dk_at dksX54_pieceOf_2 14 rfl rfl)
theorem dX54_pieceOf_63 : decode cX54_pieceOf 63 = .ok (.istore 9, 2) := dk_54 9 (dk_at dksX54_pieceOf_2 15 rfl rfl)
theorem dX54_pieceOf_65 : decode cX54_pieceOf 65 = .ok (.lload_n 2, 1) := dk_32 (dk_at dksX54_pieceOf_2 17 rfl rfl)
theorem dX54_pieceOf_66 : decode cX54_pieceOf 66 = .ok (.iload 8, 2) := dk_21 8 (dk_at dksX54_pieceOf_2 18 rfl rfl)
theorem dX54_pieceOf_68 : decode cX54_pieceOf 68 = .ok (.invokestatic 138, 3) := dk_184 0 138 (dk_at dksX54_pieceOf_2 20 rfl rfl)
theorem dX54_pieceOf_71 : decode cX54_pieceOf 71 = .ok (.ifCond .ne 36, 3) := dk_154 0 36 (dk_at dksX54_pieceOf_3 0 rfl rfl)
theorem dX54_pieceOf_74 : decode cX54_pieceOf 74 = .ok (.lload_n 2, 1) := dk_32 (dk_at dksX54_pieceOf_3 3 rfl rfl)
theorem dX54_pieceOf_75 : decode cX54_pieceOf 75 = .ok (.iload 9, 2) := dk_21 9 (dk_at dksX54_pieceOf_3 4 rfl rfl)
theorem dX54_pieceOf_77 : decode cX54_pieceOf 77 = .ok (.invokestatic 138, 3) := dk_184 0 138 (dk_at dksX54_pieceOf_3 6 rfl rfl)
theorem dX54_pieceOf_80 : decode cX54_pieceOf 80 = .ok (.ifCond .ne 27, 3) := dk_154 0 27 (dk_at dksX54_pieceOf_3 9 rfl rfl)
theorem dX54_pieceOf_83 : decode cX54_pieceOf 83 = .ok (.lload 4, 2) := dk_22 4 (dk_at dksX54_pieceOf_3 12 rfl rfl)
theorem dX54_pieceOf_85 : decode cX54_pieceOf 85 = .ok (.iload 8, 2) := dk_21 8 (dk_at dksX54_pieceOf_3 14 rfl rfl)
theorem dX54_pieceOf_87 : decode cX54_pieceOf 87 = .ok (.invokestatic 138, 3) := dk_184 0 138 (dk_at dksX54_pieceOf_3 16 rfl rfl)
theorem dX54_pieceOf_90 : decode cX54_pieceOf 90 = .ok (.ifCond .ne 13, 3) := dk_154 0 13 (dk_at dksX54_pieceOf_3 19 rfl rfl)
theorem dX54_pieceOf_93 : decode cX54_pieceOf 93 = .ok (.lload 4, 2) := dk_22 4 (dk_at dksX54_pieceOf_3 22 rfl rfl)
theorem dX54_pieceOf_95 : decode cX54_pieceOf 95 = .ok (.iload 9, 2) := dk_21 9 (dk_at dksX54_pieceOf_4 0 rfl rfl)
theorem dX54_pieceOf_97 : decode cX54_pieceOf 97 = .ok (.invokestatic 138, 3) := dk_184 0 138 (dk_at dksX54_pieceOf_4 2 rfl rfl)
theorem dX54_pieceOf_100 : decode cX54_pieceOf 100 = .ok (.ifCond .eq 7, 3) := dk_153 0 7 (dk_at dksX54_pieceOf_4 5 rfl rfl)
theorem dX54_pieceOf_103 : decode cX54_pieceOf 103 = .ok (.iconst 1, 1) := dk_4 (dk_at dksX54_pieceOf_4 8 rfl rfl)
theorem dX54_pieceOf_104 : decode cX54_pieceOf 104 = .ok (.goto 4, 3) := dk_167 0 4 (dk_at dksX54_pieceOf_4 9 rfl rfl)
theorem dX54_pieceOf_107 : decode cX54_pieceOf 107 = .ok (.iconst 0, 1) := dk_3 (dk_at dksX54_pieceOf_4 12 rfl rfl)
theorem dX54_pieceOf_108 : decode cX54_pieceOf 108 = .ok (.istore 10, 2) := dk_54 10 (dk_at dksX54_pieceOf_4 13 rfl rfl)
theorem dX54_pieceOf_110 : decode cX54_pieceOf 110 = .ok (.lload 4, 2) := dk_22 4 (dk_at dksX54_pieceOf_4 15 rfl rfl)
theorem dX54_pieceOf_112 : decode cX54_pieceOf 112 = .ok (.iload 10, 2) := dk_21 10 (dk_at dksX54_pieceOf_4 17 rfl rfl)
theorem dX54_pieceOf_114 : decode cX54_pieceOf 114 = .ok (.ifCond .eq 15, 3) := dk_153 0 15 (dk_at dksX54_pieceOf_4 19 rfl rfl)
theorem dX54_pieceOf_117 : decode cX54_pieceOf 117 = .ok (.lconst 1, 1) := dk_10 (dk_at dksX54_pieceOf_4 22 rfl rfl)
theorem dX54_pieceOf_118 : decode cX54_pieceOf 118 = .ok (.iload 8, 2) := dk_21 8 (dk_at dksX54_pieceOf_5 0 rfl rfl)
theorem dX54_pieceOf_120 : decode cX54_pieceOf 120 = .ok (.lshl, 1) := dk_121 (dk_at dksX54_pieceOf_5 2 rfl rfl)
theorem dX54_pieceOf_121 : decode cX54_pieceOf 121 = .ok (.lconst 1, 1) := dk_10 (dk_at dksX54_pieceOf_5 3 rfl rfl)
theorem dX54_pieceOf_122 : decode cX54_pieceOf 122 = .ok (.iload 9, 2) := dk_21 9 (dk_at dksX54_pieceOf_5 4 rfl rfl)
theorem dX54_pieceOf_124 : decode cX54_pieceOf 124 = .ok (.lshl, 1) := dk_121 (dk_at dksX54_pieceOf_5 6 rfl rfl)
theorem dX54_pieceOf_125 : decode cX54_pieceOf 125 = .ok (.lor, 1) := dk_129 (dk_at dksX54_pieceOf_5 7 rfl rfl)
theorem dX54_pieceOf_126 : decode cX54_pieceOf 126 = .ok (.goto 4, 3) := dk_167 0 4 (dk_at dksX54_pieceOf_5 8 rfl rfl)
theorem dX54_pieceOf_129 : decode cX54_pieceOf 129 = .ok (.lconst 0, 1) := dk_9 (dk_at dksX54_pieceOf_5 11 rfl rfl)
theorem dX54_pieceOf_130 : decode cX54_pieceOf 130 = .ok (.lor, 1) := dk_129 (dk_at dksX54_pieceOf_5 12 rfl rfl)
theorem dX54_pieceOf_131 : decode cX54_pieceOf 131 = .ok (.lstore 4, 2) := dk_55 4 (dk_at dksX54_pieceOf_5 13 rfl rfl)
theorem dX54_pieceOf_133 : decode cX54_pieceOf 133 = .ok (.iinc 7 1, 3) := dk_132 7 1 (dk_at dksX54_pieceOf_5 15 rfl rfl)
theorem dX54_pieceOf_136 : decode cX54_pieceOf 136 = .ok (.goto (-106), 3) := dk_167 255 150 (dk_at dksX54_pieceOf_5 18 rfl rfl)
theorem dX54_pieceOf_139 : decode cX54_pieceOf 139 = .ok (.iinc 6 1, 3) := dk_132 6 1 (dk_at dksX54_pieceOf_5 21 rfl rfl)
theorem dX54_pieceOf_142 : decode cX54_pieceOf 142 = .ok (.goto (-122), 3) := dk_167 255 134 (dk_at dksX54_pieceOf_6 0 rfl rfl)
theorem dX54_pieceOf_145 : decode cX54_pieceOf 145 = .ok (.lload 4, 2) := dk_22 4 (dk_at dksX54_pieceOf_6 3 rfl rfl)
theorem dX54_pieceOf_147 : decode cX54_pieceOf 147 = .ok (.lreturn, 1) := dk_173 (dk_at dksX54_pieceOf_6 5 rfl rfl)
abbrev cX54_alike : ByteArray := prog_61_method_44_code
def yX54_alike : MethodName := ⟨RX54, "alike", "(II)I"⟩
def dkwX54_alike_6 : List UInt8 := [172, 132, 3, 1, 132, 4, 1, 167, 255, 116, 2, 172]
abbrev dktX54_alike_6 : List UInt8 := dkwX54_alike_6 ++ []
def dkwX54_alike_5 : List UInt8 := [167, 0, 4, 3, 54, 5, 132, 6, 1, 167, 255, 206, 21, 5, 153, 0, 14, 29, 28, 160, 0, 6, 21, 4]
abbrev dktX54_alike_5 : List UInt8 := dkwX54_alike_5 ++ dktX54_alike_6
def dkwX54_alike_4 : List UInt8 := [21, 4, 104, 21, 6, 96, 51, 42, 180, 0, 32, 16, 8, 27, 104, 21, 6, 96, 51, 160, 0, 7, 4]
abbrev dktX54_alike_4 : List UInt8 := dkwX54_alike_4 ++ dktX54_alike_5
def dkwX54_alike_3 : List UInt8 := [3, 54, 5, 3, 54, 6, 21, 6, 16, 8, 162, 0, 49, 21, 5, 153, 0, 35, 42, 180, 0, 32, 16, 8]
abbrev dktX54_alike_3 : List UInt8 := dkwX54_alike_3 ++ dktX54_alike_4
def dkwX54_alike_2 : List UInt8 := [46, 160, 0, 23, 42, 180, 0, 16, 21, 4, 46, 42, 180, 0, 16, 27, 46, 160, 0, 7, 4, 167, 0, 4]
abbrev dktX54_alike_2 : List UInt8 := dkwX54_alike_2 ++ dktX54_alike_3
def dkwX54_alike_1 : List UInt8 := [182, 0, 57, 153, 0, 126, 21, 4, 27, 159, 0, 39, 42, 180, 0, 13, 21, 4, 46, 42, 180, 0, 13, 27]
abbrev dktX54_alike_1 : List UInt8 := dkwX54_alike_1 ++ dktX54_alike_2
def dkwX54_alike_0 : List UInt8 := [42, 3, 181, 0, 52, 3, 62, 3, 54, 4, 21, 4, 42, 180, 0, 7, 3, 46, 162, 0, 135, 42, 3, 27]
abbrev dktX54_alike_0 : List UInt8 := dkwX54_alike_0 ++ dktX54_alike_1
theorem dksX54_alike_0 : cX54_alike.data.toList.drop 0 = dktX54_alike_0 := by decide +kernel
theorem dksX54_alike_1 : cX54_alike.data.toList.drop 24 = dktX54_alike_1 := dk_seg dksX54_alike_0 24 rfl rfl
theorem dksX54_alike_2 : cX54_alike.data.toList.drop 48 = dktX54_alike_2 := dk_seg dksX54_alike_1 24 rfl rfl
theorem dksX54_alike_3 : cX54_alike.data.toList.drop 72 = dktX54_alike_3 := dk_seg dksX54_alike_2 24 rfl rfl
theorem dksX54_alike_4 : cX54_alike.data.toList.drop 96 = dktX54_alike_4 := dk_seg dksX54_alike_3 24 rfl rfl
theorem dksX54_alike_5 : cX54_alike.data.toList.drop 119 = dktX54_alike_5 := dk_seg dksX54_alike_4 23 rfl rfl
theorem dksX54_alike_6 : cX54_alike.data.toList.drop 143 = dktX54_alike_6 := dk_seg dksX54_alike_5 24 rfl rfl
theorem dX54_alike_0 : decode cX54_alike 0 = .ok (.aload_n 0, 1) := dk_42 (dk_at dksX54_alike_0 0 rfl rfl)
theorem dX54_alike_1 : decode cX54_alike 1 = .ok (.iconst 0, 1) := dk_3 (dk_at dksX54_alike_0 1 rfl rfl)
theorem dX54_alike_2 : decode cX54_alike 2 = .ok (.putfield 52, 3) := dk_181 0 52 (dk_at dksX54_alike_0 2 rfl rfl)
theorem dX54_alike_5 : decode cX54_alike 5 = .ok (.iconst 0, 1) := dk_3 (dk_at dksX54_alike_0 5 rfl rfl)
theorem dX54_alike_6 : decode cX54_alike 6 = .ok (.istore_n 3, 1) := dk_62 (dk_at dksX54_alike_0 6 rfl rfl)
theorem dX54_alike_7 : decode cX54_alike 7 = .ok (.iconst 0, 1) := dk_3 (dk_at dksX54_alike_0 7 rfl rfl)
theorem dX54_alike_8 : decode cX54_alike 8 = .ok (.istore 4, 2) := dk_54 4 (dk_at dksX54_alike_0 8 rfl rfl)
theorem dX54_alike_10 : decode cX54_alike 10 = .ok (.iload 4, 2) := dk_21 4 (dk_at dksX54_alike_0 10 rfl rfl)
theorem dX54_alike_12 : decode cX54_alike 12 = .ok (.aload_n 0, 1) := dk_42 (dk_at dksX54_alike_0 12 rfl rfl)
theorem dX54_alike_13 : decode cX54_alike 13 = .ok (.getfield 7, 3) := dk_180 0 7 (dk_at dksX54_alike_0 13 rfl rfl)
theorem dX54_alike_16 : decode cX54_alike 16 = .ok (.iconst 0, 1) := dk_3 (dk_at dksX54_alike_0 16 rfl rfl)
theorem dX54_alike_17 : decode cX54_alike 17 = .ok (.iaload, 1) := dk_46 (dk_at dksX54_alike_0 17 rfl rfl)
theorem dX54_alike_18 : decode cX54_alike 18 = .ok (.if_icmp .ge 135, 3) := dk_162 0 135 (dk_at dksX54_alike_0 18 rfl rfl)
theorem dX54_alike_21 : decode cX54_alike 21 = .ok (.aload_n 0, 1) := dk_42 (dk_at dksX54_alike_0 21 rfl rfl)
theorem dX54_alike_22 : decode cX54_alike 22 = .ok (.iconst 0, 1) := dk_3 (dk_at dksX54_alike_0 22 rfl rfl)
theorem dX54_alike_23 : decode cX54_alike 23 = .ok (.iload_n 1, 1) := dk_27 (dk_at dksX54_alike_0 23 rfl rfl)
theorem dX54_alike_24 : decode cX54_alike 24 = .ok (.invokevirtual 57, 3) := dk_182 0 57 (dk_at dksX54_alike_1 0 rfl rfl)
theorem dX54_alike_27 : decode cX54_alike 27 = .ok (.ifCond .eq 126, 3) := dk_153 0 126 (dk_at dksX54_alike_1 3 rfl rfl)
theorem dX54_alike_30 : decode cX54_alike 30 = .ok (.iload 4, 2) := dk_21 4 (dk_at dksX54_alike_1 6 rfl rfl)
theorem dX54_alike_32 : decode cX54_alike 32 = .ok (.iload_n 1, 1) := dk_27 (dk_at dksX54_alike_1 8 rfl rfl)
theorem dX54_alike_33 : decode cX54_alike 33 = .ok (.if_icmp .eq 39, 3) := dk_159 0 39 (dk_at dksX54_alike_1 9 rfl rfl)
theorem dX54_alike_36 : decode cX54_alike 36 = .ok (.aload_n 0, 1) := dk_42 (dk_at dksX54_alike_1 12 rfl rfl)
theorem dX54_alike_37 : decode cX54_alike 37 = .ok (.getfield 13, 3) := dk_180 0 13 (dk_at dksX54_alike_1 13 rfl rfl)
theorem dX54_alike_40 : decode cX54_alike 40 = .ok (.iload 4, 2) := dk_21 4 (dk_at dksX54_alike_1 16 rfl rfl)
theorem dX54_alike_42 : decode cX54_alike 42 = .ok (.iaload, 1) := dk_46 (dk_at dksX54_alike_1 18 rfl rfl)
theorem dX54_alike_43 : decode cX54_alike 43 = .ok (.aload_n 0, 1) := dk_42 (dk_at dksX54_alike_1 19 rfl rfl)
theorem dX54_alike_44 : decode cX54_alike 44 = .ok (.getfield 13, 3) := dk_180 0 13 (dk_at dksX54_alike_1 20 rfl rfl)
theorem dX54_alike_47 : decode cX54_alike 47 = .ok (.iload_n 1, 1) := dk_27 (dk_at dksX54_alike_1 23 rfl rfl)
theorem dX54_alike_48 : decode cX54_alike 48 = .ok (.iaload, 1) := dk_46 (dk_at dksX54_alike_2 0 rfl rfl)
theorem dX54_alike_49 : decode cX54_alike 49 = .ok (.if_icmp .ne 23, 3) := dk_160 0 23 (dk_at dksX54_alike_2 1 rfl rfl)
theorem dX54_alike_52 : decode cX54_alike 52 = .ok (.aload_n 0, 1) := dk_42 (dk_at dksX54_alike_2 4 rfl rfl)
theorem dX54_alike_53 : decode cX54_alike 53 = .ok (.getfield 16, 3) := dk_180 0 16 (dk_at dksX54_alike_2 5 rfl rfl)
theorem dX54_alike_56 : decode cX54_alike 56 = .ok (.iload 4, 2) := dk_21 4 (dk_at dksX54_alike_2 8 rfl rfl)
theorem dX54_alike_58 : decode cX54_alike 58 = .ok (.iaload, 1) := dk_46 (dk_at dksX54_alike_2 10 rfl rfl)
theorem dX54_alike_59 : decode cX54_alike 59 = .ok (.aload_n 0, 1) := dk_42 (dk_at dksX54_alike_2 11 rfl rfl)
theorem dX54_alike_60 : decode cX54_alike 60 = .ok (.getfield 16, 3) := dk_180 0 16 (dk_at dksX54_alike_2 12 rfl rfl)
theorem dX54_alike_63 : decode cX54_alike 63 = .ok (.iload_n 1, 1) := dk_27 (dk_at dksX54_alike_2 15 rfl rfl)
theorem dX54_alike_64 : decode cX54_alike 64 = .ok (.iaload, 1) := dk_46 (dk_at dksX54_alike_2 16 rfl rfl)
theorem dX54_alike_65 : decode cX54_alike 65 = .ok (.if_icmp .ne 7, 3) := dk_160 0 7 (dk_at dksX54_alike_2 17 rfl rfl)
theorem dX54_alike_68 : decode cX54_alike 68 = .ok (.iconst 1, 1) := dk_4 (dk_at dksX54_alike_2 20 rfl rfl)
theorem dX54_alike_69 : decode cX54_alike 69 = .ok (.goto 4, 3) := dk_167 0 4 (dk_at dksX54_alike_2 21 rfl rfl)
theorem dX54_alike_72 : decode cX54_alike 72 = .ok (.iconst 0, 1) := dk_3 (dk_at dksX54_alike_3 0 rfl rfl)
theorem dX54_alike_73 : decode cX54_alike 73 = .ok (.istore 5, 2) := dk_54 5 (dk_at dksX54_alike_3 1 rfl rfl)
theorem dX54_alike_75 : decode cX54_alike 75 = .ok (.iconst 0, 1) := dk_3 (dk_at dksX54_alike_3 3 rfl rfl)
theorem dX54_alike_76 : decode cX54_alike 76 = .ok (.istore 6, 2) := dk_54 6 (dk_at dksX54_alike_3 4 rfl rfl)
theorem dX54_alike_78 : decode cX54_alike 78 = .ok (.iload 6, 2) := dk_21 6 (dk_at dksX54_alike_3 6 rfl rfl)
theorem dX54_alike_80 : decode cX54_alike 80 = .ok (.bipush 8, 2) := dk_16 8 (dk_at dksX54_alike_3 8 rfl rfl)
theorem dX54_alike_82 : decode cX54_alike 82 = .ok (.if_icmp .ge 49, 3) := dk_162 0 49 (dk_at dksX54_alike_3 10 rfl rfl)
theorem dX54_alike_85 : decode cX54_alike 85 = .ok (.iload 5, 2) := dk_21 5 (dk_at dksX54_alike_3 13 rfl rfl)
theorem dX54_alike_87 : decode cX54_alike 87 = .ok (.ifCond .eq 35, 3) := dk_153 0 35 (dk_at dksX54_alike_3 15 rfl rfl)
theorem dX54_alike_90 : decode cX54_alike 90 = .ok (.aload_n 0, 1) := dk_42 (dk_at dksX54_alike_3 18 rfl rfl)
theorem dX54_alike_91 : decode cX54_alike 91 = .ok (.getfield 32, 3) := dk_180 0 32 (dk_at dksX54_alike_3 19 rfl rfl)
theorem dX54_alike_94 : decode cX54_alike 94 = .ok (.bipush 8, 2) := dk_16 8 (dk_at dksX54_alike_3 22 rfl rfl)
theorem dX54_alike_96 : decode cX54_alike 96 = .ok (.iload 4, 2) := dk_21 4 (dk_at dksX54_alike_4 0 rfl rfl)
theorem dX54_alike_98 : decode cX54_alike 98 = .ok (.imul, 1) := dk_104 (dk_at dksX54_alike_4 2 rfl rfl)
theorem dX54_alike_99 : decode cX54_alike 99 = .ok (.iload 6, 2) := dk_21 6 (dk_at dksX54_alike_4 3 rfl rfl)
theorem dX54_alike_101 : decode cX54_alike 101 = .ok (.iadd, 1) := dk_96 (dk_at dksX54_alike_4 5 rfl rfl)
theorem dX54_alike_102 : decode cX54_alike 102 = .ok (.baload, 1) := dk_51 (dk_at dksX54_alike_4 6 rfl rfl)
theorem dX54_alike_103 : decode cX54_alike 103 = .ok (.aload_n 0, 1) := dk_42 (dk_at dksX54_alike_4 7 rfl rfl)
theorem dX54_alike_104 : decode cX54_alike 104 = .ok (.getfield 32, 3) := dk_180 0 32 (dk_at dksX54_alike_4 8 rfl rfl)
theorem dX54_alike_107 : decode cX54_alike 107 = .ok (.bipush 8, 2) := dk_16 8 (dk_at dksX54_alike_4 11 rfl rfl)
theorem dX54_alike_109 : decode cX54_alike 109 = .ok (.iload_n 1, 1) := dk_27 (dk_at dksX54_alike_4 13 rfl rfl)
theorem dX54_alike_110 : decode cX54_alike 110 = .ok (.imul, 1) := dk_104 (dk_at dksX54_alike_4 14 rfl rfl)
theorem dX54_alike_111 : decode cX54_alike 111 = .ok (.iload 6, 2) := dk_21 6 (dk_at dksX54_alike_4 15 rfl rfl)
theorem dX54_alike_113 : decode cX54_alike 113 = .ok (.iadd, 1) := dk_96 (dk_at dksX54_alike_4 17 rfl rfl)
theorem dX54_alike_114 : decode cX54_alike 114 = .ok (.baload, 1) := dk_51 (dk_at dksX54_alike_4 18 rfl rfl)
theorem dX54_alike_115 : decode cX54_alike 115 = .ok (.if_icmp .ne 7, 3) := dk_160 0 7 (dk_at dksX54_alike_4 19 rfl rfl)
theorem dX54_alike_118 : decode cX54_alike 118 = .ok (.iconst 1, 1) := dk_4 (dk_at dksX54_alike_4 22 rfl rfl)
theorem dX54_alike_119 : decode cX54_alike 119 = .ok (.goto 4, 3) := dk_167 0 4 (dk_at dksX54_alike_5 0 rfl rfl)
theorem dX54_alike_122 : decode cX54_alike 122 = .ok (.iconst 0, 1) := dk_3 (dk_at dksX54_alike_5 3 rfl rfl)
theorem dX54_alike_123 : decode cX54_alike 123 = .ok (.istore 5, 2) := dk_54 5 (dk_at dksX54_alike_5 4 rfl rfl)
theorem dX54_alike_125 : decode cX54_alike 125 = .ok (.iinc 6 1, 3) := dk_132 6 1 (dk_at dksX54_alike_5 6 rfl rfl)
theorem dX54_alike_128 : decode cX54_alike 128 = .ok (.goto (-50), 3) := dk_167 255 206 (dk_at dksX54_alike_5 9 rfl rfl)
theorem dX54_alike_131 : decode cX54_alike 131 = .ok (.iload 5, 2) := dk_21 5 (dk_at dksX54_alike_5 12 rfl rfl)
theorem dX54_alike_133 : decode cX54_alike 133 = .ok (.ifCond .eq 14, 3) := dk_153 0 14 (dk_at dksX54_alike_5 14 rfl rfl)
theorem dX54_alike_136 : decode cX54_alike 136 = .ok (.iload_n 3, 1) := dk_29 (dk_at dksX54_alike_5 17 rfl rfl)
theorem dX54_alike_137 : decode cX54_alike 137 = .ok (.iload_n 2, 1) := dk_28 (dk_at dksX54_alike_5 18 rfl rfl)
theorem dX54_alike_138 : decode cX54_alike 138 = .ok (.if_icmp .ne 6, 3) := dk_160 0 6 (dk_at dksX54_alike_5 19 rfl rfl)
theorem dX54_alike_141 : decode cX54_alike 141 = .ok (.iload 4, 2) := dk_21 4 (dk_at dksX54_alike_5 22 rfl rfl)
theorem dX54_alike_143 : decode cX54_alike 143 = .ok (.ireturn, 1) := dk_172 (dk_at dksX54_alike_6 0 rfl rfl)
theorem dX54_alike_144 : decode cX54_alike 144 = .ok (.iinc 3 1, 3) := dk_132 3 1 (dk_at dksX54_alike_6 1 rfl rfl)
theorem dX54_alike_147 : decode cX54_alike 147 = .ok (.iinc 4 1, 3) := dk_132 4 1 (dk_at dksX54_alike_6 4 rfl rfl)
theorem dX54_alike_150 : decode cX54_alike 150 = .ok (.goto (-140), 3) := dk_167 255 116 (dk_at dksX54_alike_6 7 rfl rfl)
theorem dX54_alike_153 : decode cX54_alike 153 = .ok (.iconst (-1), 1) := dk_2 (dk_at dksX54_alike_6 10 rfl rfl)
theorem dX54_alike_154 : decode cX54_alike 154 = .ok (.ireturn, 1) := dk_172 (dk_at dksX54_alike_6 11 rfl rfl)
abbrev cX54_weight : ByteArray := prog_61_method_42_code
def yX54_weight : MethodName := ⟨RX54, "weight", "(I)J"⟩
def dkwX54_weight_3 : List UInt8 := [65, 132, 4, 1, 167, 255, 206, 32, 173]
abbrev dktX54_weight_3 : List UInt8 := dkwX54_weight_3 ++ []
def dkwX54_weight_2 : List UInt8 := [182, 0, 161, 21, 4, 184, 0, 138, 153, 0, 14, 42, 180, 0, 16, 21, 4, 46, 133, 167, 0, 4, 9, 97]
abbrev dktX54_weight_2 : List UInt8 := dkwX54_weight_2 ++ dktX54_weight_3
def dkwX54_weight_1 : List UInt8 := [21, 4, 42, 180, 0, 7, 3, 46, 162, 0, 45, 42, 180, 0, 52, 154, 0, 38, 32, 42, 27, 9]
abbrev dktX54_weight_1 : List UInt8 := dkwX54_weight_1 ++ dktX54_weight_2
def dkwX54_weight_0 : List UInt8 := [42, 42, 3, 27, 182, 0, 57, 153, 0, 7, 3, 167, 0, 4, 4, 181, 0, 52, 9, 65, 3, 54, 4]
abbrev dktX54_weight_0 : List UInt8 := dkwX54_weight_0 ++ dktX54_weight_1
theorem dksX54_weight_0 : cX54_weight.data.toList.drop 0 = dktX54_weight_0 := by decide +kernel
theorem dksX54_weight_1 : cX54_weight.data.toList.drop 23 = dktX54_weight_1 := dk_seg dksX54_weight_0 23 rfl rfl
theorem dksX54_weight_2 : cX54_weight.data.toList.drop 45 = dktX54_weight_2 := dk_seg dksX54_weight_1 22 rfl rfl
theorem dksX54_weight_3 : cX54_weight.data.toList.drop 69 = dktX54_weight_3 := dk_seg dksX54_weight_2 24 rfl rfl
theorem dX54_weight_0 : decode cX54_weight 0 = .ok (.aload_n 0, 1) := dk_42 (dk_at dksX54_weight_0 0 rfl rfl)
theorem dX54_weight_1 : decode cX54_weight 1 = .ok (.aload_n 0, 1) := dk_42 (dk_at dksX54_weight_0 1 rfl rfl)
theorem dX54_weight_2 : decode cX54_weight 2 = .ok (.iconst 0, 1) := dk_3 (dk_at dksX54_weight_0 2 rfl rfl)
theorem dX54_weight_3 : decode cX54_weight 3 = .ok (.iload_n 1, 1) := dk_27 (dk_at dksX54_weight_0 3 rfl rfl)
theorem dX54_weight_4 : decode cX54_weight 4 = .ok (.invokevirtual 57, 3) := dk_182 0 57 (dk_at dksX54_weight_0 4 rfl rfl)
theorem dX54_weight_7 : decode cX54_weight 7 = .ok (.ifCond .eq 7, 3) := dk_153 0 7 (dk_at dksX54_weight_0 7 rfl rfl)
theorem dX54_weight_10 : decode cX54_weight 10 = .ok (.iconst 0, 1) := dk_3 (dk_at dksX54_weight_0 10 rfl rfl)
theorem dX54_weight_11 : decode cX54_weight 11 = .ok (.goto 4, 3) := dk_167 0 4 (dk_at dksX54_weight_0 11 rfl rfl)
theorem dX54_weight_14 : decode cX54_weight 14 = .ok (.iconst 1, 1) := dk_4 (dk_at dksX54_weight_0 14 rfl rfl)
theorem dX54_weight_15 : decode cX54_weight 15 = .ok (.putfield 52, 3) := dk_181 0 52 (dk_at dksX54_weight_0 15 rfl rfl)
theorem dX54_weight_18 : decode cX54_weight 18 = .ok (.lconst 0, 1) := dk_9 (dk_at dksX54_weight_0 18 rfl rfl)
theorem dX54_weight_19 : decode cX54_weight 19 = .ok (.lstore_n 2, 1) := dk_65 (dk_at dksX54_weight_0 19 rfl rfl)
theorem dX54_weight_20 : decode cX54_weight 20 = .ok (.iconst 0, 1) := dk_3 (dk_at dksX54_weight_0 20 rfl rfl)
theorem dX54_weight_21 : decode cX54_weight 21 = .ok (.istore 4, 2) := dk_54 4 (dk_at dksX54_weight_0 21 rfl rfl)
theorem dX54_weight_23 : decode cX54_weight 23 = .ok (.iload 4, 2) := dk_21 4 (dk_at dksX54_weight_1 0 rfl rfl)
theorem dX54_weight_25 : decode cX54_weight 25 = .ok (.aload_n 0, 1) := dk_42 (dk_at dksX54_weight_1 2 rfl rfl)
theorem dX54_weight_26 : decode cX54_weight 26 = .ok (.getfield 7, 3) := dk_180 0 7 (dk_at dksX54_weight_1 3 rfl rfl)
theorem dX54_weight_29 : decode cX54_weight 29 = .ok (.iconst 0, 1) := dk_3 (dk_at dksX54_weight_1 6 rfl rfl)
theorem dX54_weight_30 : decode cX54_weight 30 = .ok (.iaload, 1) := dk_46 (dk_at dksX54_weight_1 7 rfl rfl)
theorem dX54_weight_31 : decode cX54_weight 31 = .ok (.if_icmp .ge 45, 3) := dk_162 0 45 (dk_at dksX54_weight_1 8 rfl rfl)
theorem dX54_weight_34 : decode cX54_weight 34 = .ok (.aload_n 0, 1) := dk_42 (dk_at dksX54_weight_1 11 rfl rfl)
theorem dX54_weight_35 : decode cX54_weight 35 = .ok (.getfield 52, 3) := dk_180 0 52 (dk_at dksX54_weight_1 12 rfl rfl)
theorem dX54_weight_38 : decode cX54_weight 38 = .ok (.ifCond .ne 38, 3) := dk_154 0 38 (dk_at dksX54_weight_1 15 rfl rfl)
theorem dX54_weight_41 : decode cX54_weight 41 = .ok (.lload_n 2, 1) := dk_32 (dk_at dksX54_weight_1 18 rfl rfl)
theorem dX54_weight_42 : decode cX54_weight 42 = .ok (.aload_n 0, 1) := dk_42 (dk_at dksX54_weight_1 19 rfl rfl)
theorem dX54_weight_43 : decode cX54_weight 43 = .ok (.iload_n 1, 1) := dk_27 (dk_at dksX54_weight_1 20 rfl rfl)
theorem dX54_weight_44 : decode cX54_weight 44 = .ok (.lconst 0, 1) := dk_9 (dk_at dksX54_weight_1 21 rfl rfl)
theorem dX54_weight_45 : decode cX54_weight 45 = .ok (.invokevirtual 161, 3) := dk_182 0 161 (dk_at dksX54_weight_2 0 rfl rfl)
theorem dX54_weight_48 : decode cX54_weight 48 = .ok (.iload 4, 2) := dk_21 4 (dk_at dksX54_weight_2 3 rfl rfl)
theorem dX54_weight_50 : decode cX54_weight 50 = .ok (.invokestatic 138, 3) := dk_184 0 138 (dk_at dksX54_weight_2 5 rfl rfl)
theorem dX54_weight_53 : decode cX54_weight 53 = .ok (.ifCond .eq 14, 3) := dk_153 0 14 (dk_at dksX54_weight_2 8 rfl rfl)
theorem dX54_weight_56 : decode cX54_weight 56 = .ok (.aload_n 0, 1) := dk_42 (dk_at dksX54_weight_2 11 rfl rfl)
theorem dX54_weight_57 : decode cX54_weight 57 = .ok (.getfield 16, 3) := dk_180 0 16 (dk_at dksX54_weight_2 12 rfl rfl)
theorem dX54_weight_60 : decode cX54_weight 60 = .ok (.iload 4, 2) := dk_21 4 (dk_at dksX54_weight_2 15 rfl rfl)
theorem dX54_weight_62 : decode cX54_weight 62 = .ok (.iaload, 1) := dk_46 (dk_at dksX54_weight_2 17 rfl rfl)
theorem dX54_weight_63 : decode cX54_weight 63 = .ok (.i2l, 1) := dk_133 (dk_at dksX54_weight_2 18 rfl rfl)
theorem dX54_weight_64 : decode cX54_weight 64 = .ok (.goto 4, 3) := dk_167 0 4 (dk_at dksX54_weight_2 19 rfl rfl)
theorem dX54_weight_67 : decode cX54_weight 67 = .ok (.lconst 0, 1) := dk_9 (dk_at dksX54_weight_2 22 rfl rfl)
theorem dX54_weight_68 : decode cX54_weight 68 = .ok (.ladd, 1) := dk_97 (dk_at dksX54_weight_2 23 rfl rfl)
theorem dX54_weight_69 : decode cX54_weight 69 = .ok (.lstore_n 2, 1) := dk_65 (dk_at dksX54_weight_3 0 rfl rfl)
theorem dX54_weight_70 : decode cX54_weight 70 = .ok (.iinc 4 1, 3) := dk_132 4 1 (dk_at dksX54_weight_3 1 rfl rfl)
theorem dX54_weight_73 : decode cX54_weight 73 = .ok (.goto (-50), 3) := dk_167 255 206 (dk_at dksX54_weight_3 4 rfl rfl)
theorem dX54_weight_76 : decode cX54_weight 76 = .ok (.lload_n 2, 1) := dk_32 (dk_at dksX54_weight_3 7 rfl rfl)
theorem dX54_weight_77 : decode cX54_weight 77 = .ok (.lreturn, 1) := dk_173 (dk_at dksX54_weight_3 8 rfl rfl)
abbrev cX54_hazard : ByteArray := prog_61_method_26_code
def yX54_hazard : MethodName := ⟨RX54, "hazard", "(II)Z"⟩
def dkwX54_hazard_0 : List UInt8 := [42, 3, 181, 0, 52, 42, 7, 27, 28, 3, 182, 0, 134, 172]
abbrev dktX54_hazard_0 : List UInt8 := dkwX54_hazard_0 ++ []
theorem dksX54_hazard_0 : cX54_hazard.data.toList.drop 0 = dktX54_hazard_0 := by decide +kernel
theorem dX54_hazard_0 : decode cX54_hazard 0 = .ok (.aload_n 0, 1) := dk_42 (dk_at dksX54_hazard_0 0 rfl rfl)
theorem dX54_hazard_1 : decode cX54_hazard 1 = .ok (.iconst 0, 1) := dk_3 (dk_at dksX54_hazard_0 1 rfl rfl)
theorem dX54_hazard_2 : decode cX54_hazard 2 = .ok (.putfield 52, 3) := dk_181 0 52 (dk_at dksX54_hazard_0 2 rfl rfl)
theorem dX54_hazard_5 : decode cX54_hazard 5 = .ok (.aload_n 0, 1) := dk_42 (dk_at dksX54_hazard_0 5 rfl rfl)
theorem dX54_hazard_6 : decode cX54_hazard 6 = .ok (.iconst 4, 1) := dk_7 (dk_at dksX54_hazard_0 6 rfl rfl)
theorem dX54_hazard_7 : decode cX54_hazard 7 = .ok (.iload_n 1, 1) := dk_27 (dk_at dksX54_hazard_0 7 rfl rfl)
theorem dX54_hazard_8 : decode cX54_hazard 8 = .ok (.iload_n 2, 1) := dk_28 (dk_at dksX54_hazard_0 8 rfl rfl)
theorem dX54_hazard_9 : decode cX54_hazard 9 = .ok (.iconst 0, 1) := dk_3 (dk_at dksX54_hazard_0 9 rfl rfl)
theorem dX54_hazard_10 : decode cX54_hazard 10 = .ok (.invokevirtual 134, 3) := dk_182 0 134 (dk_at dksX54_hazard_0 10 rfl rfl)
theorem dX54_hazard_13 : decode cX54_hazard 13 = .ok (.ireturn, 1) := dk_172 (dk_at dksX54_hazard_0 13 rfl rfl)
abbrev cX54_damage : ByteArray := prog_61_method_27_code
def yX54_damage : MethodName := ⟨RX54, "damage", "(II)I"⟩
def dkwX54_damage_1 : List UInt8 := [27, 46, 62, 42, 180, 0, 38, 27, 28, 79, 29, 172]
abbrev dktX54_damage_1 : List UInt8 := dkwX54_damage_1 ++ []
def dkwX54_damage_0 : List UInt8 := [42, 3, 181, 0, 52, 42, 3, 16, 6, 27, 28, 3, 182, 0, 65, 154, 0, 5, 2, 172, 42, 180, 0, 38]
abbrev dktX54_damage_0 : List UInt8 := dkwX54_damage_0 ++ dktX54_damage_1
theorem dksX54_damage_0 : cX54_damage.data.toList.drop 0 = dktX54_damage_0 := by decide +kernel
theorem dksX54_damage_1 : cX54_damage.data.toList.drop 24 = dktX54_damage_1 := dk_seg dksX54_damage_0 24 rfl rfl
theorem dX54_damage_0 : decode cX54_damage 0 = .ok (.aload_n 0, 1) := dk_42 (dk_at dksX54_damage_0 0 rfl rfl)
theorem dX54_damage_1 : decode cX54_damage 1 = .ok (.iconst 0, 1) := dk_3 (dk_at dksX54_damage_0 1 rfl rfl)
theorem dX54_damage_2 : decode cX54_damage 2 = .ok (.putfield 52, 3) := dk_181 0 52 (dk_at dksX54_damage_0 2 rfl rfl)
theorem dX54_damage_5 : decode cX54_damage 5 = .ok (.aload_n 0, 1) := dk_42 (dk_at dksX54_damage_0 5 rfl rfl)
theorem dX54_damage_6 : decode cX54_damage 6 = .ok (.iconst 0, 1) := dk_3 (dk_at dksX54_damage_0 6 rfl rfl)
theorem dX54_damage_7 : decode cX54_damage 7 = .ok (.bipush 6, 2) := dk_16 6 (dk_at dksX54_damage_0 7 rfl rfl)
theorem dX54_damage_9 : decode cX54_damage 9 = .ok (.iload_n 1, 1) := dk_27 (dk_at dksX54_damage_0 9 rfl rfl)
theorem dX54_damage_10 : decode cX54_damage 10 = .ok (.iload_n 2, 1) := dk_28 (dk_at dksX54_damage_0 10 rfl rfl)
theorem dX54_damage_11 : decode cX54_damage 11 = .ok (.iconst 0, 1) := dk_3 (dk_at dksX54_damage_0 11 rfl rfl)
theorem dX54_damage_12 : decode cX54_damage 12 = .ok (.invokevirtual 65, 3) := dk_182 0 65 (dk_at dksX54_damage_0 12 rfl rfl)
theorem dX54_damage_15 : decode cX54_damage 15 = .ok (.ifCond .ne 5, 3) := dk_154 0 5 (dk_at dksX54_damage_0 15 rfl rfl)
theorem dX54_damage_18 : decode cX54_damage 18 = .ok (.iconst (-1), 1) := dk_2 (dk_at dksX54_damage_0 18 rfl rfl)
theorem dX54_damage_19 : decode cX54_damage 19 = .ok (.ireturn, 1) := dk_172 (dk_at dksX54_damage_0 19 rfl rfl)
theorem dX54_damage_20 : decode cX54_damage 20 = .ok (.aload_n 0, 1) := dk_42 (dk_at dksX54_damage_0 20 rfl rfl)
theorem dX54_damage_21 : decode cX54_damage 21 = .ok (.getfield 38, 3) := dk_180 0 38 (dk_at dksX54_damage_0 21 rfl rfl)
theorem dX54_damage_24 : decode cX54_damage 24 = .ok (.iload_n 1, 1) := dk_27 (dk_at dksX54_damage_1 0 rfl rfl)
theorem dX54_damage_25 : decode cX54_damage 25 = .ok (.iaload, 1) := dk_46 (dk_at dksX54_damage_1 1 rfl rfl)
theorem dX54_damage_26 : decode cX54_damage 26 = .ok (.istore_n 3, 1) := dk_62 (dk_at dksX54_damage_1 2 rfl rfl)
theorem dX54_damage_27 : decode cX54_damage 27 = .ok (.aload_n 0, 1) := dk_42 (dk_at dksX54_damage_1 3 rfl rfl)
theorem dX54_damage_28 : decode cX54_damage 28 = .ok (.getfield 38, 3) := dk_180 0 38 (dk_at dksX54_damage_1 4 rfl rfl)
theorem dX54_damage_31 : decode cX54_damage 31 = .ok (.iload_n 1, 1) := dk_27 (dk_at dksX54_damage_1 7 rfl rfl)
theorem dX54_damage_32 : decode cX54_damage 32 = .ok (.iload_n 2, 1) := dk_28 (dk_at dksX54_damage_1 8 rfl rfl)
theorem dX54_damage_33 : decode cX54_damage 33 = .ok (.iastore, 1) := dk_79 (dk_at dksX54_damage_1 9 rfl rfl)
theorem dX54_damage_34 : decode cX54_damage 34 = .ok (.iload_n 3, 1) := dk_29 (dk_at dksX54_damage_1 10 rfl rfl)
theorem dX54_damage_35 : decode cX54_damage 35 = .ok (.ireturn, 1) := dk_172 (dk_at dksX54_damage_1 11 rfl rfl)
abbrev cX54_free : ByteArray := prog_61_method_31_code
def yX54_free : MethodName := ⟨RX54, "free", "(IJ)Z"⟩
def dkwX54_free_1 : List UInt8 := [167, 0, 4, 3, 172]
abbrev dktX54_free_1 : List UInt8 := dkwX54_free_1 ++ []
def dkwX54_free_0 : List UInt8 := [42, 3, 181, 0, 52, 42, 3, 27, 182, 0, 57, 153, 0, 16, 42, 27, 32, 182, 0, 146, 153, 0, 7, 4]
abbrev dktX54_free_0 : List UInt8 := dkwX54_free_0 ++ dktX54_free_1
theorem dksX54_free_0 : cX54_free.data.toList.drop 0 = dktX54_free_0 := by decide +kernel
theorem dksX54_free_1 : cX54_free.data.toList.drop 24 = dktX54_free_1 := dk_seg dksX54_free_0 24 rfl rfl
theorem dX54_free_0 : decode cX54_free 0 = .ok (.aload_n 0, 1) := dk_42 (dk_at dksX54_free_0 0 rfl rfl)
theorem dX54_free_1 : decode cX54_free 1 = .ok (.iconst 0, 1) := dk_3 (dk_at dksX54_free_0 1 rfl rfl)
theorem dX54_free_2 : decode cX54_free 2 = .ok (.putfield 52, 3) := dk_181 0 52 (dk_at dksX54_free_0 2 rfl rfl)
theorem dX54_free_5 : decode cX54_free 5 = .ok (.aload_n 0, 1) := dk_42 (dk_at dksX54_free_0 5 rfl rfl)
theorem dX54_free_6 : decode cX54_free 6 = .ok (.iconst 0, 1) := dk_3 (dk_at dksX54_free_0 6 rfl rfl)
theorem dX54_free_7 : decode cX54_free 7 = .ok (.iload_n 1, 1) := dk_27 (dk_at dksX54_free_0 7 rfl rfl)
theorem dX54_free_8 : decode cX54_free 8 = .ok (.invokevirtual 57, 3) := dk_182 0 57 (dk_at dksX54_free_0 8 rfl rfl)
theorem dX54_free_11 : decode cX54_free 11 = .ok (.ifCond .eq 16, 3) := dk_153 0 16 (dk_at dksX54_free_0 11 rfl rfl)
theorem dX54_free_14 : decode cX54_free 14 = .ok (.aload_n 0, 1) := dk_42 (dk_at dksX54_free_0 14 rfl rfl)
theorem dX54_free_15 : decode cX54_free 15 = .ok (.iload_n 1, 1) := dk_27 (dk_at dksX54_free_0 15 rfl rfl)
theorem dX54_free_16 : decode cX54_free 16 = .ok (.lload_n 2, 1) := dk_32 (dk_at dksX54_free_0 16 rfl rfl)
theorem dX54_free_17 : decode cX54_free 17 = .ok (.invokevirtual 146, 3) := dk_182 0 146 (dk_at dksX54_free_0 17 rfl rfl)
theorem dX54_free_20 : decode cX54_free 20 = .ok (.ifCond .eq 7, 3) := dk_153 0 7 (dk_at dksX54_free_0 20 rfl rfl)
theorem dX54_free_23 : decode cX54_free 23 = .ok (.iconst 1, 1) := dk_4 (dk_at dksX54_free_0 23 rfl rfl)
theorem dX54_free_24 : decode cX54_free 24 = .ok (.goto 4, 3) := dk_167 0 4 (dk_at dksX54_free_1 0 rfl rfl)
theorem dX54_free_27 : decode cX54_free 27 = .ok (.iconst 0, 1) := dk_3 (dk_at dksX54_free_1 3 rfl rfl)
theorem dX54_free_28 : decode cX54_free 28 = .ok (.ireturn, 1) := dk_172 (dk_at dksX54_free_1 4 rfl rfl)
abbrev cX54_plain : ByteArray := prog_61_method_32_code
def yX54_plain : MethodName := ⟨RX54, "plain", "(IJ)Z"⟩
def dkwX54_plain_1 : List UInt8 := [167, 0, 4, 3, 172]
abbrev dktX54_plain_1 : List UInt8 := dkwX54_plain_1 ++ []
def dkwX54_plain_0 : List UInt8 := [42, 3, 181, 0, 52, 42, 3, 27, 182, 0, 57, 153, 0, 16, 42, 27, 32, 182, 0, 142, 153, 0, 7, 4]
abbrev dktX54_plain_0 : List UInt8 := dkwX54_plain_0 ++ dktX54_plain_1
theorem dksX54_plain_0 : cX54_plain.data.toList.drop 0 = dktX54_plain_0 := by decide +kernel
theorem dksX54_plain_1 : cX54_plain.data.toList.drop 24 = dktX54_plain_1 := dk_seg dksX54_plain_0 24 rfl rfl
theorem dX54_plain_0 : decode cX54_plain 0 = .ok (.aload_n 0, 1) := dk_42 (dk_at dksX54_plain_0 0 rfl rfl)
theorem dX54_plain_1 : decode cX54_plain 1 = .ok (.iconst 0, 1) := dk_3 (dk_at dksX54_plain_0 1 rfl rfl)
theorem dX54_plain_2 : decode cX54_plain 2 = .ok (.putfield 52, 3) := dk_181 0 52 (dk_at dksX54_plain_0 2 rfl rfl)
theorem dX54_plain_5 : decode cX54_plain 5 = .ok (.aload_n 0, 1) := dk_42 (dk_at dksX54_plain_0 5 rfl rfl)
theorem dX54_plain_6 : decode cX54_plain 6 = .ok (.iconst 0, 1) := dk_3 (dk_at dksX54_plain_0 6 rfl rfl)
theorem dX54_plain_7 : decode cX54_plain 7 = .ok (.iload_n 1, 1) := dk_27 (dk_at dksX54_plain_0 7 rfl rfl)
theorem dX54_plain_8 : decode cX54_plain 8 = .ok (.invokevirtual 57, 3) := dk_182 0 57 (dk_at dksX54_plain_0 8 rfl rfl)
theorem dX54_plain_11 : decode cX54_plain 11 = .ok (.ifCond .eq 16, 3) := dk_153 0 16 (dk_at dksX54_plain_0 11 rfl rfl)
theorem dX54_plain_14 : decode cX54_plain 14 = .ok (.aload_n 0, 1) := dk_42 (dk_at dksX54_plain_0 14 rfl rfl)
theorem dX54_plain_15 : decode cX54_plain 15 = .ok (.iload_n 1, 1) := dk_27 (dk_at dksX54_plain_0 15 rfl rfl)
theorem dX54_plain_16 : decode cX54_plain 16 = .ok (.lload_n 2, 1) := dk_32 (dk_at dksX54_plain_0 16 rfl rfl)
theorem dX54_plain_17 : decode cX54_plain 17 = .ok (.invokevirtual 142, 3) := dk_182 0 142 (dk_at dksX54_plain_0 17 rfl rfl)
theorem dX54_plain_20 : decode cX54_plain 20 = .ok (.ifCond .eq 7, 3) := dk_153 0 7 (dk_at dksX54_plain_0 20 rfl rfl)
theorem dX54_plain_23 : decode cX54_plain 23 = .ok (.iconst 1, 1) := dk_4 (dk_at dksX54_plain_0 23 rfl rfl)
theorem dX54_plain_24 : decode cX54_plain 24 = .ok (.goto 4, 3) := dk_167 0 4 (dk_at dksX54_plain_1 0 rfl rfl)
theorem dX54_plain_27 : decode cX54_plain 27 = .ok (.iconst 0, 1) := dk_3 (dk_at dksX54_plain_1 3 rfl rfl)
theorem dX54_plain_28 : decode cX54_plain 28 = .ok (.ireturn, 1) := dk_172 (dk_at dksX54_plain_1 4 rfl rfl)
abbrev cX54_write : ByteArray := prog_61_method_50_code
def yX54_write : MethodName := ⟨RX54, "write", "(I)I"⟩
def dkwX54_write_5 : List UInt8 := [180, 0, 29, 6, 28, 104, 5, 96, 46, 182, 0, 182, 132, 2, 1, 167, 255, 206, 42, 180, 0, 171, 172]
abbrev dktX54_write_5 : List UInt8 := dkwX54_write_5 ++ []
def dkwX54_write_4 : List UInt8 := [180, 0, 29, 6, 28, 104, 46, 42, 180, 0, 29, 6, 28, 104, 4, 96, 46, 182, 0, 185, 42, 42]
abbrev dktX54_write_4 : List UInt8 := dkwX54_write_4 ++ dktX54_write_5
def dkwX54_write_3 : List UInt8 := [182, 0, 189, 132, 2, 1, 167, 255, 238, 3, 61, 28, 42, 180, 0, 26, 3, 46, 162, 0, 46, 42, 6, 42]
abbrev dktX54_write_3 : List UInt8 := dkwX54_write_3 ++ dktX54_write_4
def dkwX54_write_2 : List UInt8 := [182, 0, 185, 132, 2, 1, 167, 255, 226, 3, 61, 28, 42, 180, 0, 7, 3, 46, 162, 0, 14, 42, 28]
abbrev dktX54_write_2 : List UInt8 := dkwX54_write_2 ++ dktX54_write_3
def dkwX54_write_1 : List UInt8 := [180, 0, 7, 3, 46, 162, 0, 26, 42, 3, 42, 180, 0, 13, 28, 46, 42, 180, 0, 16, 28, 46]
abbrev dktX54_write_1 : List UInt8 := dkwX54_write_1 ++ dktX54_write_2
def dkwX54_write_0 : List UInt8 := [42, 3, 181, 0, 52, 42, 27, 181, 0, 168, 42, 3, 181, 0, 165, 42, 2, 181, 0, 171, 3, 61, 28, 42]
abbrev dktX54_write_0 : List UInt8 := dkwX54_write_0 ++ dktX54_write_1
theorem dksX54_write_0 : cX54_write.data.toList.drop 0 = dktX54_write_0 := by decide +kernel
theorem dksX54_write_1 : cX54_write.data.toList.drop 24 = dktX54_write_1 := dk_seg dksX54_write_0 24 rfl rfl
theorem dksX54_write_2 : cX54_write.data.toList.drop 46 = dktX54_write_2 := dk_seg dksX54_write_1 22 rfl rfl
theorem dksX54_write_3 : cX54_write.data.toList.drop 69 = dktX54_write_3 := dk_seg dksX54_write_2 23 rfl rfl
theorem dksX54_write_4 : cX54_write.data.toList.drop 93 = dktX54_write_4 := dk_seg dksX54_write_3 24 rfl rfl
theorem dksX54_write_5 : cX54_write.data.toList.drop 115 = dktX54_write_5 := dk_seg dksX54_write_4 22 rfl rfl
theorem dX54_write_0 : decode cX54_write 0 = .ok (.aload_n 0, 1) := dk_42 (dk_at dksX54_write_0 0 rfl rfl)
theorem dX54_write_1 : decode cX54_write 1 = .ok (.iconst 0, 1) := dk_3 (dk_at dksX54_write_0 1 rfl rfl)
theorem dX54_write_2 : decode cX54_write 2 = .ok (.putfield 52, 3) := dk_181 0 52 (dk_at dksX54_write_0 2 rfl rfl)
theorem dX54_write_5 : decode cX54_write 5 = .ok (.aload_n 0, 1) := dk_42 (dk_at dksX54_write_0 5 rfl rfl)
theorem dX54_write_6 : decode cX54_write 6 = .ok (.iload_n 1, 1) := dk_27 (dk_at dksX54_write_0 6 rfl rfl)
theorem dX54_write_7 : decode cX54_write 7 = .ok (.putfield 168, 3) := dk_181 0 168 (dk_at dksX54_write_0 7 rfl rfl)
theorem dX54_write_10 : decode cX54_write 10 = .ok (.aload_n 0, 1) := dk_42 (dk_at dksX54_write_0 10 rfl rfl)
theorem dX54_write_11 : decode cX54_write 11 = .ok (.iconst 0, 1) := dk_3 (dk_at dksX54_write_0 11 rfl rfl)
theorem dX54_write_12 : decode cX54_write 12 = .ok (.putfield 165, 3) := dk_181 0 165 (dk_at dksX54_write_0 12 rfl rfl)
theorem dX54_write_15 : decode cX54_write 15 = .ok (.aload_n 0, 1) := dk_42 (dk_at dksX54_write_0 15 rfl rfl)
theorem dX54_write_16 : decode cX54_write 16 = .ok (.iconst (-1), 1) := dk_2 (dk_at dksX54_write_0 16 rfl rfl)
theorem dX54_write_17 : decode cX54_write 17 = .ok (.putfield 171, 3) := dk_181 0 171 (dk_at dksX54_write_0 17 rfl rfl)
theorem dX54_write_20 : decode cX54_write 20 = .ok (.iconst 0, 1) := dk_3 (dk_at dksX54_write_0 20 rfl rfl)
theorem dX54_write_21 : decode cX54_write 21 = .ok (.istore_n 2, 1) := dk_61 (dk_at dksX54_write_0 21 rfl rfl)
theorem dX54_write_22 : decode cX54_write 22 = .ok (.iload_n 2, 1) := dk_28 (dk_at dksX54_write_0 22 rfl rfl)
theorem dX54_write_23 : decode cX54_write 23 = .ok (.aload_n 0, 1) := dk_42 (dk_at dksX54_write_0 23 rfl rfl)
theorem dX54_write_24 : decode cX54_write 24 = .ok (.getfield 7, 3) := dk_180 0 7 (dk_at dksX54_write_1 0 rfl rfl)
theorem dX54_write_27 : decode cX54_write 27 = .ok (.iconst 0, 1) := dk_3 (dk_at dksX54_write_1 3 rfl rfl)
theorem dX54_write_28 : decode cX54_write 28 = .ok (.iaload, 1) := dk_46 (dk_at dksX54_write_1 4 rfl rfl)
theorem dX54_write_29 : decode cX54_write 29 = .ok (.if_icmp .ge 26, 3) := dk_162 0 26 (dk_at dksX54_write_1 5 rfl rfl)
theorem dX54_write_32 : decode cX54_write 32 = .ok (.aload_n 0, 1) := dk_42 (dk_at dksX54_write_1 8 rfl rfl)
theorem dX54_write_33 : decode cX54_write 33 = .ok (.iconst 0, 1) := dk_3 (dk_at dksX54_write_1 9 rfl rfl)
theorem dX54_write_34 : decode cX54_write 34 = .ok (.aload_n 0, 1) := dk_42 (dk_at dksX54_write_1 10 rfl rfl)
theorem dX54_write_35 : decode cX54_write 35 = .ok (.getfield 13, 3) := dk_180 0 13 (dk_at dksX54_write_1 11 rfl rfl)
theorem dX54_write_38 : decode cX54_write 38 = .ok (.iload_n 2, 1) := dk_28 (dk_at dksX54_write_1 14 rfl rfl)
theorem dX54_write_39 : decode cX54_write 39 = .ok (.iaload, 1) := dk_46 (dk_at dksX54_write_1 15 rfl rfl)
theorem dX54_write_40 : decode cX54_write 40 = .ok (.aload_n 0, 1) := dk_42 (dk_at dksX54_write_1 16 rfl rfl)
theorem dX54_write_41 : decode cX54_write 41 = .ok (.getfield 16, 3) := dk_180 0 16 (dk_at dksX54_write_1 17 rfl rfl)
theorem dX54_write_44 : decode cX54_write 44 = .ok (.iload_n 2, 1) := dk_28 (dk_at dksX54_write_1 20 rfl rfl)
theorem dX54_write_45 : decode cX54_write 45 = .ok (.iaload, 1) := dk_46 (dk_at dksX54_write_1 21 rfl rfl)
theorem dX54_write_46 : decode cX54_write 46 = .ok (.invokevirtual 185, 3) := dk_182 0 185 (dk_at dksX54_write_2 0 rfl rfl)
theorem dX54_write_49 : decode cX54_write 49 = .ok (.iinc 2 1, 3) := dk_132 2 1 (dk_at dksX54_write_2 3 rfl rfl)
theorem dX54_write_52 : decode cX54_write 52 = .ok (.goto (-30), 3) := dk_167 255 226 (dk_at dksX54_write_2 6 rfl rfl)
theorem dX54_write_55 : decode cX54_write 55 = .ok (.iconst 0, 1) := dk_3 (dk_at dksX54_write_2 9 rfl rfl)
theorem dX54_write_56 : decode cX54_write 56 = .ok (.istore_n 2, 1) := dk_61 (dk_at dksX54_write_2 10 rfl rfl)
theorem dX54_write_57 : decode cX54_write 57 = .ok (.iload_n 2, 1) := dk_28 (dk_at dksX54_write_2 11 rfl rfl)
theorem dX54_write_58 : decode cX54_write 58 = .ok (.aload_n 0, 1) := dk_42 (dk_at dksX54_write_2 12 rfl rfl)
theorem dX54_write_59 : decode cX54_write 59 = .ok (.getfield 7, 3) := dk_180 0 7 (dk_at dksX54_write_2 13 rfl rfl)
theorem dX54_write_62 : decode cX54_write 62 = .ok (.iconst 0, 1) := dk_3 (dk_at dksX54_write_2 16 rfl rfl)
theorem dX54_write_63 : decode cX54_write 63 = .ok (.iaload, 1) := dk_46 (dk_at dksX54_write_2 17 rfl rfl)
theorem dX54_write_64 : decode cX54_write 64 = .ok (.if_icmp .ge 14, 3) := dk_162 0 14 (dk_at dksX54_write_2 18 rfl rfl)
theorem dX54_write_67 : decode cX54_write 67 = .ok (.aload_n 0, 1) := dk_42 (dk_at dksX54_write_2 21 rfl rfl)
theorem dX54_write_68 : decode cX54_write 68 = .ok (.iload_n 2, 1) := dk_28 (dk_at dksX54_write_2 22 rfl rfl)
theorem dX54_write_69 : decode cX54_write 69 = .ok (.invokevirtual 189, 3) := dk_182 0 189 (dk_at dksX54_write_3 0 rfl rfl)
theorem dX54_write_72 : decode cX54_write 72 = .ok (.iinc 2 1, 3) := dk_132 2 1 (dk_at dksX54_write_3 3 rfl rfl)
theorem dX54_write_75 : decode cX54_write 75 = .ok (.goto (-18), 3) := dk_167 255 238 (dk_at dksX54_write_3 6 rfl rfl)
theorem dX54_write_78 : decode cX54_write 78 = .ok (.iconst 0, 1) := dk_3 (dk_at dksX54_write_3 9 rfl rfl)
theorem dX54_write_79 : decode cX54_write 79 = .ok (.istore_n 2, 1) := dk_61 (dk_at dksX54_write_3 10 rfl rfl)
theorem dX54_write_80 : decode cX54_write 80 = .ok (.iload_n 2, 1) := dk_28 (dk_at dksX54_write_3 11 rfl rfl)
theorem dX54_write_81 : decode cX54_write 81 = .ok (.aload_n 0, 1) := dk_42 (dk_at dksX54_write_3 12 rfl rfl)
theorem dX54_write_82 : decode cX54_write 82 = .ok (.getfield 26, 3) := dk_180 0 26 (dk_at dksX54_write_3 13 rfl rfl)
theorem dX54_write_85 : decode cX54_write 85 = .ok (.iconst 0, 1) := dk_3 (dk_at dksX54_write_3 16 rfl rfl)
theorem dX54_write_86 : decode cX54_write 86 = .ok (.iaload, 1) := dk_46 (dk_at dksX54_write_3 17 rfl rfl)
theorem dX54_write_87 : decode cX54_write 87 = .ok (.if_icmp .ge 46, 3) := dk_162 0 46 (dk_at dksX54_write_3 18 rfl rfl)
theorem dX54_write_90 : decode cX54_write 90 = .ok (.aload_n 0, 1) := dk_42 (dk_at dksX54_write_3 21 rfl rfl)
theorem dX54_write_91 : decode cX54_write 91 = .ok (.iconst 3, 1) := dk_6 (dk_at dksX54_write_3 22 rfl rfl)
theorem dX54_write_92 : decode cX54_write 92 = .ok (.aload_n 0, 1) := dk_42 (dk_at dksX54_write_3 23 rfl rfl)
theorem dX54_write_93 : decode cX54_write 93 = .ok (.getfield 29, 3) := dk_180 0 29 (dk_at dksX54_write_4 0 rfl rfl)
theorem dX54_write_96 : decode cX54_write 96 = .ok (.iconst 3, 1) := dk_6 (dk_at dksX54_write_4 3 rfl rfl)
theorem dX54_write_97 : decode cX54_write 97 = .ok (.iload_n 2, 1) := dk_28 (dk_at dksX54_write_4 4 rfl rfl)
theorem dX54_write_98 : decode cX54_write 98 = .ok (.imul, 1) := dk_104 (dk_at dksX54_write_4 5 rfl rfl)
theorem dX54_write_99 : decode cX54_write 99 = .ok (.iaload, 1) := dk_46 (dk_at dksX54_write_4 6 rfl rfl)
theorem dX54_write_100 : decode cX54_write 100 = .ok (.aload_n 0, 1) := dk_42 (dk_at dksX54_write_4 7 rfl rfl)
theorem dX54_write_101 : decode cX54_write 101 = .ok (.getfield 29, 3) := dk_180 0 29 (dk_at dksX54_write_4 8 rfl rfl)
theorem dX54_write_104 : decode cX54_write 104 = .ok (.iconst 3, 1) := dk_6 (dk_at dksX54_write_4 11 rfl rfl)
theorem dX54_write_105 : decode cX54_write 105 = .ok (.iload_n 2, 1) := dk_28 (dk_at dksX54_write_4 12 rfl rfl)
theorem dX54_write_106 : decode cX54_write 106 = .ok (.imul, 1) := dk_104 (dk_at dksX54_write_4 13 rfl rfl)
theorem dX54_write_107 : decode cX54_write 107 = .ok (.iconst 1, 1) := dk_4 (dk_at dksX54_write_4 14 rfl rfl)
theorem dX54_write_108 : decode cX54_write 108 = .ok (.iadd, 1) := dk_96 (dk_at dksX54_write_4 15 rfl rfl)
theorem dX54_write_109 : decode cX54_write 109 = .ok (.iaload, 1) := dk_46 (dk_at dksX54_write_4 16 rfl rfl)
theorem dX54_write_110 : decode cX54_write 110 = .ok (.invokevirtual 185, 3) := dk_182 0 185 (dk_at dksX54_write_4 17 rfl rfl)
theorem dX54_write_113 : decode cX54_write 113 = .ok (.aload_n 0, 1) := dk_42 (dk_at dksX54_write_4 20 rfl rfl)
theorem dX54_write_114 : decode cX54_write 114 = .ok (.aload_n 0, 1) := dk_42 (dk_at dksX54_write_4 21 rfl rfl)
theorem dX54_write_115 : decode cX54_write 115 = .ok (.getfield 29, 3) := dk_180 0 29 (dk_at dksX54_write_5 0 rfl rfl)
theorem dX54_write_118 : decode cX54_write 118 = .ok (.iconst 3, 1) := dk_6 (dk_at dksX54_write_5 3 rfl rfl)
theorem dX54_write_119 : decode cX54_write 119 = .ok (.iload_n 2, 1) := dk_28 (dk_at dksX54_write_5 4 rfl rfl)
theorem dX54_write_120 : decode cX54_write 120 = .ok (.imul, 1) := dk_104 (dk_at dksX54_write_5 5 rfl rfl)
theorem dX54_write_121 : decode cX54_write 121 = .ok (.iconst 2, 1) := dk_5 (dk_at dksX54_write_5 6 rfl rfl)
theorem dX54_write_122 : decode cX54_write 122 = .ok (.iadd, 1) := dk_96 (dk_at dksX54_write_5 7 rfl rfl)
theorem dX54_write_123 : decode cX54_write 123 = .ok (.iaload, 1) := dk_46 (dk_at dksX54_write_5 8 rfl rfl)
theorem dX54_write_124 : decode cX54_write 124 = .ok (.invokevirtual 182, 3) := dk_182 0 182 (dk_at dksX54_write_5 9 rfl rfl)
theorem dX54_write_127 : decode cX54_write 127 = .ok (.iinc 2 1, 3) := dk_132 2 1 (dk_at dksX54_write_5 12 rfl rfl)
theorem dX54_write_130 : decode cX54_write 130 = .ok (.goto (-50), 3) := dk_167 255 206 (dk_at dksX54_write_5 15 rfl rfl)
theorem dX54_write_133 : decode cX54_write 133 = .ok (.aload_n 0, 1) := dk_42 (dk_at dksX54_write_5 18 rfl rfl)
theorem dX54_write_134 : decode cX54_write 134 = .ok (.getfield 171, 3) := dk_180 0 171 (dk_at dksX54_write_5 19 rfl rfl)
theorem dX54_write_137 : decode cX54_write 137 = .ok (.ireturn, 1) := dk_172 (dk_at dksX54_write_5 22 rfl rfl)
abbrev cX54_putTwo : ByteArray := prog_61_method_48_code
def yX54_putTwo : MethodName := ⟨RX54, "putTwo", "(III)V"⟩
def dkwX54_putTwo_0 : List UInt8 := [42, 27, 182, 0, 179, 42, 28, 182, 0, 182, 42, 29, 182, 0, 182, 177]
abbrev dktX54_putTwo_0 : List UInt8 := dkwX54_putTwo_0 ++ []
theorem dksX54_putTwo_0 : cX54_putTwo.data.toList.drop 0 = dktX54_putTwo_0 := by decide +kernel
theorem dX54_putTwo_0 : decode cX54_putTwo 0 = .ok (.aload_n 0, 1) := dk_42 (dk_at dksX54_putTwo_0 0 rfl rfl)
theorem dX54_putTwo_1 : decode cX54_putTwo 1 = .ok (.iload_n 1, 1) := dk_27 (dk_at dksX54_putTwo_0 1 rfl rfl)
theorem dX54_putTwo_2 : decode cX54_putTwo 2 = .ok (.invokevirtual 179, 3) := dk_182 0 179 (dk_at dksX54_putTwo_0 2 rfl rfl)
theorem dX54_putTwo_5 : decode cX54_putTwo 5 = .ok (.aload_n 0, 1) := dk_42 (dk_at dksX54_putTwo_0 5 rfl rfl)
theorem dX54_putTwo_6 : decode cX54_putTwo 6 = .ok (.iload_n 2, 1) := dk_28 (dk_at dksX54_putTwo_0 6 rfl rfl)
theorem dX54_putTwo_7 : decode cX54_putTwo 7 = .ok (.invokevirtual 182, 3) := dk_182 0 182 (dk_at dksX54_putTwo_0 7 rfl rfl)
theorem dX54_putTwo_10 : decode cX54_putTwo 10 = .ok (.aload_n 0, 1) := dk_42 (dk_at dksX54_putTwo_0 10 rfl rfl)
theorem dX54_putTwo_11 : decode cX54_putTwo 11 = .ok (.iload_n 3, 1) := dk_29 (dk_at dksX54_putTwo_0 11 rfl rfl)
theorem dX54_putTwo_12 : decode cX54_putTwo 12 = .ok (.invokevirtual 182, 3) := dk_182 0 182 (dk_at dksX54_putTwo_0 12 rfl rfl)
theorem dX54_putTwo_15 : decode cX54_putTwo 15 = .ok (.return_, 1) := dk_177 (dk_at dksX54_putTwo_0 15 rfl rfl)
abbrev cX54_putWord : ByteArray := prog_61_method_46_code
def yX54_putWord : MethodName := ⟨RX54, "putWord", "(I)V"⟩
def dkwX54_putWord_3 : List UInt8 := [182, 0, 176, 177]
abbrev dktX54_putWord_3 : List UInt8 := dkwX54_putWord_3 ++ []
def dkwX54_putWord_2 : List UInt8 := [16, 8, 21, 5, 104, 123, 20, 0, 174, 127, 136, 182, 0, 176, 132, 5, 255, 167, 255, 232, 42, 16, 32]
abbrev dktX54_putWord_2 : List UInt8 := dkwX54_putWord_2 ++ dktX54_putWord_3
def dkwX54_putWord_1 : List UInt8 := [22, 5, 20, 0, 76, 109, 55, 5, 167, 255, 236, 21, 4, 4, 100, 54, 5, 21, 5, 155, 0, 25, 42, 32]
abbrev dktX54_putWord_1 : List UInt8 := dkwX54_putWord_1 ++ dktX54_putWord_2
def dkwX54_putWord_0 : List UInt8 := [27, 184, 0, 103, 65, 3, 54, 4, 32, 55, 5, 22, 5, 20, 0, 174, 148, 158, 0, 17, 132, 4, 1]
abbrev dktX54_putWord_0 : List UInt8 := dkwX54_putWord_0 ++ dktX54_putWord_1
theorem dksX54_putWord_0 : cX54_putWord.data.toList.drop 0 = dktX54_putWord_0 := by decide +kernel
theorem dksX54_putWord_1 : cX54_putWord.data.toList.drop 23 = dktX54_putWord_1 := dk_seg dksX54_putWord_0 23 rfl rfl
theorem dksX54_putWord_2 : cX54_putWord.data.toList.drop 47 = dktX54_putWord_2 := dk_seg dksX54_putWord_1 24 rfl rfl
theorem dksX54_putWord_3 : cX54_putWord.data.toList.drop 70 = dktX54_putWord_3 := dk_seg dksX54_putWord_2 23 rfl rfl
theorem dX54_putWord_0 : decode cX54_putWord 0 = .ok (.iload_n 1, 1) := dk_27 (dk_at dksX54_putWord_0 0 rfl rfl)
theorem dX54_putWord_1 : decode cX54_putWord 1 = .ok (.invokestatic 103, 3) := dk_184 0 103 (dk_at dksX54_putWord_0 1 rfl rfl)
theorem dX54_putWord_4 : decode cX54_putWord 4 = .ok (.lstore_n 2, 1) := dk_65 (dk_at dksX54_putWord_0 4 rfl rfl)
theorem dX54_putWord_5 : decode cX54_putWord 5 = .ok (.iconst 0, 1) := dk_3 (dk_at dksX54_putWord_0 5 rfl rfl)
theorem dX54_putWord_6 : decode cX54_putWord 6 = .ok (.istore 4, 2) := dk_54 4 (dk_at dksX54_putWord_0 6 rfl rfl)
theorem dX54_putWord_8 : decode cX54_putWord 8 = .ok (.lload_n 2, 1) := dk_32 (dk_at dksX54_putWord_0 8 rfl rfl)
theorem dX54_putWord_9 : decode cX54_putWord 9 = .ok (.lstore 5, 2) := dk_55 5 (dk_at dksX54_putWord_0 9 rfl rfl)
theorem dX54_putWord_11 : decode cX54_putWord 11 = .ok (.lload 5, 2) := dk_22 5 (dk_at dksX54_putWord_0 11 rfl rfl)
theorem dX54_putWord_13 : decode cX54_putWord 13 = .ok (.ldc2_w 174, 3) := dk_20 0 174 (dk_at dksX54_putWord_0 13 rfl rfl)
theorem dX54_putWord_16 : decode cX54_putWord 16 = .ok (.lcmp, 1) := dk_148 (dk_at dksX54_putWord_0 16 rfl rfl)
theorem dX54_putWord_17 : decode cX54_putWord 17 = .ok (.ifCond .le 17, 3) := dk_158 0 17 (dk_at dksX54_putWord_0 17 rfl rfl)
theorem dX54_putWord_20 : decode cX54_putWord 20 = .ok (.iinc 4 1, 3) := dk_132 4 1 (dk_at dksX54_putWord_0 20 rfl rfl)
theorem dX54_putWord_23 : decode cX54_putWord 23 = .ok (.lload 5, 2) := dk_22 5 (dk_at dksX54_putWord_1 0 rfl rfl)
theorem dX54_putWord_25 : decode cX54_putWord 25 = .ok (.ldc2_w 76, 3) := dk_20 0 76 (dk_at dksX54_putWord_1 2 rfl rfl)
theorem dX54_putWord_28 : decode cX54_putWord 28 = .ok (.ldiv, 1) := dk_109 (dk_at dksX54_putWord_1 5 rfl rfl)
theorem dX54_putWord_29 : decode cX54_putWord 29 = .ok (.lstore 5, 2) := dk_55 5 (dk_at dksX54_putWord_1 6 rfl rfl)
theorem dX54_putWord_31 : decode cX54_putWord 31 = .ok (.goto (-20), 3) := dk_167 255 236 (dk_at dksX54_putWord_1 8 rfl rfl)
theorem dX54_putWord_34 : decode cX54_putWord 34 = .ok (.iload 4, 2) := dk_21 4 (dk_at dksX54_putWord_1 11 rfl rfl)
theorem dX54_putWord_36 : decode cX54_putWord 36 = .ok (.iconst 1, 1) := dk_4 (dk_at dksX54_putWord_1 13 rfl rfl)
theorem dX54_putWord_37 : decode cX54_putWord 37 = .ok (.isub, 1) := dk_100 (dk_at dksX54_putWord_1 14 rfl rfl)
theorem dX54_putWord_38 : decode cX54_putWord 38 = .ok (.istore 5, 2) := dk_54 5 (dk_at dksX54_putWord_1 15 rfl rfl)
theorem dX54_putWord_40 : decode cX54_putWord 40 = .ok (.iload 5, 2) := dk_21 5 (dk_at dksX54_putWord_1 17 rfl rfl)
theorem dX54_putWord_42 : decode cX54_putWord 42 = .ok (.ifCond .lt 25, 3) := dk_155 0 25 (dk_at dksX54_putWord_1 19 rfl rfl)
theorem dX54_putWord_45 : decode cX54_putWord 45 = .ok (.aload_n 0, 1) := dk_42 (dk_at dksX54_putWord_1 22 rfl rfl)
theorem dX54_putWord_46 : decode cX54_putWord 46 = .ok (.lload_n 2, 1) := dk_32 (dk_at dksX54_putWord_1 23 rfl rfl)
theorem dX54_putWord_47 : decode cX54_putWord 47 = .ok (.bipush 8, 2) := dk_16 8 (dk_at dksX54_putWord_2 0 rfl rfl)
theorem dX54_putWord_49 : decode cX54_putWord 49 = .ok (.iload 5, 2) := dk_21 5 (dk_at dksX54_putWord_2 2 rfl rfl)
theorem dX54_putWord_51 : decode cX54_putWord 51 = .ok (.imul, 1) := dk_104 (dk_at dksX54_putWord_2 4 rfl rfl)
theorem dX54_putWord_52 : decode cX54_putWord 52 = .ok (.lshr, 1) := dk_123 (dk_at dksX54_putWord_2 5 rfl rfl)
theorem dX54_putWord_53 : decode cX54_putWord 53 = .ok (.ldc2_w 174, 3) := dk_20 0 174 (dk_at dksX54_putWord_2 6 rfl rfl)
theorem dX54_putWord_56 : decode cX54_putWord 56 = .ok (.land, 1) := dk_127 (dk_at dksX54_putWord_2 9 rfl rfl)
theorem dX54_putWord_57 : decode cX54_putWord 57 = .ok (.l2i, 1) := dk_136 (dk_at dksX54_putWord_2 10 rfl rfl)
theorem dX54_putWord_58 : decode cX54_putWord 58 = .ok (.invokevirtual 176, 3) := dk_182 0 176 (dk_at dksX54_putWord_2 11 rfl rfl)
theorem dX54_putWord_61 : decode cX54_putWord 61 = .ok (.iinc 5 (-1), 3) := dk_132 5 255 (dk_at dksX54_putWord_2 14 rfl rfl)
theorem dX54_putWord_64 : decode cX54_putWord 64 = .ok (.goto (-24), 3) := dk_167 255 232 (dk_at dksX54_putWord_2 17 rfl rfl)
theorem dX54_putWord_67 : decode cX54_putWord 67 = .ok (.aload_n 0, 1) := dk_42 (dk_at dksX54_putWord_2 20 rfl rfl)
theorem dX54_putWord_68 : decode cX54_putWord 68 = .ok (.bipush 32, 2) := dk_16 32 (dk_at dksX54_putWord_2 21 rfl rfl)
theorem dX54_putWord_70 : decode cX54_putWord 70 = .ok (.invokevirtual 176, 3) := dk_182 0 176 (dk_at dksX54_putWord_3 0 rfl rfl)
theorem dX54_putWord_73 : decode cX54_putWord 73 = .ok (.return_, 1) := dk_177 (dk_at dksX54_putWord_3 3 rfl rfl)
abbrev cX54_put : ByteArray := prog_61_method_45_code
def yX54_put : MethodName := ⟨RX54, "put", "(I)V"⟩
def dkwX54_put_1 : List UInt8 := [89, 180, 0, 165, 4, 96, 181, 0, 165, 177]
abbrev dktX54_put_1 : List UInt8 := dkwX54_put_1 ++ []
def dkwX54_put_0 : List UInt8 := [42, 42, 180, 0, 165, 42, 180, 0, 168, 160, 0, 7, 27, 167, 0, 7, 42, 180, 0, 171, 181, 0, 171, 42]
abbrev dktX54_put_0 : List UInt8 := dkwX54_put_0 ++ dktX54_put_1
theorem dksX54_put_0 : cX54_put.data.toList.drop 0 = dktX54_put_0 := by decide +kernel
theorem dksX54_put_1 : cX54_put.data.toList.drop 24 = dktX54_put_1 := dk_seg dksX54_put_0 24 rfl rfl
theorem dX54_put_0 : decode cX54_put 0 = .ok (.aload_n 0, 1) := dk_42 (dk_at dksX54_put_0 0 rfl rfl)
theorem dX54_put_1 : decode cX54_put 1 = .ok (.aload_n 0, 1) := dk_42 (dk_at dksX54_put_0 1 rfl rfl)
theorem dX54_put_2 : decode cX54_put 2 = .ok (.getfield 165, 3) := dk_180 0 165 (dk_at dksX54_put_0 2 rfl rfl)
theorem dX54_put_5 : decode cX54_put 5 = .ok (.aload_n 0, 1) := dk_42 (dk_at dksX54_put_0 5 rfl rfl)
theorem dX54_put_6 : decode cX54_put 6 = .ok (.getfield 168, 3) := dk_180 0 168 (dk_at dksX54_put_0 6 rfl rfl)
theorem dX54_put_9 : decode cX54_put 9 = .ok (.if_icmp .ne 7, 3) := dk_160 0 7 (dk_at dksX54_put_0 9 rfl rfl)
theorem dX54_put_12 : decode cX54_put 12 = .ok (.iload_n 1, 1) := dk_27 (dk_at dksX54_put_0 12 rfl rfl)
theorem dX54_put_13 : decode cX54_put 13 = .ok (.goto 7, 3) := dk_167 0 7 (dk_at dksX54_put_0 13 rfl rfl)
theorem dX54_put_16 : decode cX54_put 16 = .ok (.aload_n 0, 1) := dk_42 (dk_at dksX54_put_0 16 rfl rfl)
theorem dX54_put_17 : decode cX54_put 17 = .ok (.getfield 171, 3) := dk_180 0 171 (dk_at dksX54_put_0 17 rfl rfl)
theorem dX54_put_20 : decode cX54_put 20 = .ok (.putfield 171, 3) := dk_181 0 171 (dk_at dksX54_put_0 20 rfl rfl)
theorem dX54_put_23 : decode cX54_put 23 = .ok (.aload_n 0, 1) := dk_42 (dk_at dksX54_put_0 23 rfl rfl)
theorem dX54_put_24 : decode cX54_put 24 = .ok (.dup, 1) := dk_89 (dk_at dksX54_put_1 0 rfl rfl)
theorem dX54_put_25 : decode cX54_put 25 = .ok (.getfield 165, 3) := dk_180 0 165 (dk_at dksX54_put_1 1 rfl rfl)
theorem dX54_put_28 : decode cX54_put 28 = .ok (.iconst 1, 1) := dk_4 (dk_at dksX54_put_1 4 rfl rfl)
theorem dX54_put_29 : decode cX54_put 29 = .ok (.iadd, 1) := dk_96 (dk_at dksX54_put_1 5 rfl rfl)
theorem dX54_put_30 : decode cX54_put 30 = .ok (.putfield 165, 3) := dk_181 0 165 (dk_at dksX54_put_1 6 rfl rfl)
theorem dX54_put_33 : decode cX54_put 33 = .ok (.return_, 1) := dk_177 (dk_at dksX54_put_1 9 rfl rfl)
abbrev cX54_putNumber : ByteArray := prog_61_method_47_code
def yX54_putNumber : MethodName := ⟨RX54, "putNumber", "(I)V"⟩
def dkwX54_putNumber_2 : List UInt8 := [182, 0, 176, 177]
abbrev dktX54_putNumber_2 : List UInt8 := dkwX54_putNumber_2 ++ []
def dkwX54_putNumber_1 : List UInt8 := [16, 48, 27, 28, 108, 16, 10, 112, 96, 182, 0, 176, 28, 16, 10, 108, 61, 167, 255, 234, 42, 16, 32]
abbrev dktX54_putNumber_1 : List UInt8 := dkwX54_putNumber_1 ++ dktX54_putNumber_2
def dkwX54_putNumber_0 : List UInt8 := [4, 61, 27, 28, 108, 16, 9, 164, 0, 11, 28, 16, 10, 104, 61, 167, 255, 243, 28, 158, 0, 24, 42]
abbrev dktX54_putNumber_0 : List UInt8 := dkwX54_putNumber_0 ++ dktX54_putNumber_1
theorem dksX54_putNumber_0 : cX54_putNumber.data.toList.drop 0 = dktX54_putNumber_0 := by decide +kernel
theorem dksX54_putNumber_1 : cX54_putNumber.data.toList.drop 23 = dktX54_putNumber_1 := dk_seg dksX54_putNumber_0 23 rfl rfl
theorem dksX54_putNumber_2 : cX54_putNumber.data.toList.drop 46 = dktX54_putNumber_2 := dk_seg dksX54_putNumber_1 23 rfl rfl
theorem dX54_putNumber_0 : decode cX54_putNumber 0 = .ok (.iconst 1, 1) := dk_4 (dk_at dksX54_putNumber_0 0 rfl rfl)
theorem dX54_putNumber_1 : decode cX54_putNumber 1 = .ok (.istore_n 2, 1) := dk_61 (dk_at dksX54_putNumber_0 1 rfl rfl)
theorem dX54_putNumber_2 : decode cX54_putNumber 2 = .ok (.iload_n 1, 1) := dk_27 (dk_at dksX54_putNumber_0 2 rfl rfl)
theorem dX54_putNumber_3 : decode cX54_putNumber 3 = .ok (.iload_n 2, 1) := dk_28 (dk_at dksX54_putNumber_0 3 rfl rfl)
theorem dX54_putNumber_4 : decode cX54_putNumber 4 = .ok (.idiv, 1) := dk_108 (dk_at dksX54_putNumber_0 4 rfl rfl)
theorem dX54_putNumber_5 : decode cX54_putNumber 5 = .ok (.bipush 9, 2) := dk_16 9 (dk_at dksX54_putNumber_0 5 rfl rfl)
theorem dX54_putNumber_7 : decode cX54_putNumber 7 = .ok (.if_icmp .le 11, 3) := dk_164 0 11 (dk_at dksX54_putNumber_0 7 rfl rfl)
theorem dX54_putNumber_10 : decode cX54_putNumber 10 = .ok (.iload_n 2, 1) := dk_28 (dk_at dksX54_putNumber_0 10 rfl rfl)
theorem dX54_putNumber_11 : decode cX54_putNumber 11 = .ok (.bipush 10, 2) := dk_16 10 (dk_at dksX54_putNumber_0 11 rfl rfl)
theorem dX54_putNumber_13 : decode cX54_putNumber 13 = .ok (.imul, 1) := dk_104 (dk_at dksX54_putNumber_0 13 rfl rfl)
theorem dX54_putNumber_14 : decode cX54_putNumber 14 = .ok (.istore_n 2, 1) := dk_61 (dk_at dksX54_putNumber_0 14 rfl rfl)
theorem dX54_putNumber_15 : decode cX54_putNumber 15 = .ok (.goto (-13), 3) := dk_167 255 243 (dk_at dksX54_putNumber_0 15 rfl rfl)
theorem dX54_putNumber_18 : decode cX54_putNumber 18 = .ok (.iload_n 2, 1) := dk_28 (dk_at dksX54_putNumber_0 18 rfl rfl)
theorem dX54_putNumber_19 : decode cX54_putNumber 19 = .ok (.ifCond .le 24, 3) := dk_158 0 24 (dk_at dksX54_putNumber_0 19 rfl rfl)
theorem dX54_putNumber_22 : decode cX54_putNumber 22 = .ok (.aload_n 0, 1) := dk_42 (dk_at dksX54_putNumber_0 22 rfl rfl)
theorem dX54_putNumber_23 : decode cX54_putNumber 23 = .ok (.bipush 48, 2) := dk_16 48 (dk_at dksX54_putNumber_1 0 rfl rfl)
theorem dX54_putNumber_25 : decode cX54_putNumber 25 = .ok (.iload_n 1, 1) := dk_27 (dk_at dksX54_putNumber_1 2 rfl rfl)
theorem dX54_putNumber_26 : decode cX54_putNumber 26 = .ok (.iload_n 2, 1) := dk_28 (dk_at dksX54_putNumber_1 3 rfl rfl)
theorem dX54_putNumber_27 : decode cX54_putNumber 27 = .ok (.idiv, 1) := dk_108 (dk_at dksX54_putNumber_1 4 rfl rfl)
theorem dX54_putNumber_28 : decode cX54_putNumber 28 = .ok (.bipush 10, 2) := dk_16 10 (dk_at dksX54_putNumber_1 5 rfl rfl)
theorem dX54_putNumber_30 : decode cX54_putNumber 30 = .ok (.irem, 1) := dk_112 (dk_at dksX54_putNumber_1 7 rfl rfl)
theorem dX54_putNumber_31 : decode cX54_putNumber 31 = .ok (.iadd, 1) := dk_96 (dk_at dksX54_putNumber_1 8 rfl rfl)
theorem dX54_putNumber_32 : decode cX54_putNumber 32 = .ok (.invokevirtual 176, 3) := dk_182 0 176 (dk_at dksX54_putNumber_1 9 rfl rfl)
theorem dX54_putNumber_35 : decode cX54_putNumber 35 = .ok (.iload_n 2, 1) := dk_28 (dk_at dksX54_putNumber_1 12 rfl rfl)
theorem dX54_putNumber_36 : decode cX54_putNumber 36 = .ok (.bipush 10, 2) := dk_16 10 (dk_at dksX54_putNumber_1 13 rfl rfl)
theorem dX54_putNumber_38 : decode cX54_putNumber 38 = .ok (.idiv, 1) := dk_108 (dk_at dksX54_putNumber_1 15 rfl rfl)
theorem dX54_putNumber_39 : decode cX54_putNumber 39 = .ok (.istore_n 2, 1) := dk_61 (dk_at dksX54_putNumber_1 16 rfl rfl)
theorem dX54_putNumber_40 : decode cX54_putNumber 40 = .ok (.goto (-22), 3) := dk_167 255 234 (dk_at dksX54_putNumber_1 17 rfl rfl)
theorem dX54_putNumber_43 : decode cX54_putNumber 43 = .ok (.aload_n 0, 1) := dk_42 (dk_at dksX54_putNumber_1 20 rfl rfl)
theorem dX54_putNumber_44 : decode cX54_putNumber 44 = .ok (.bipush 32, 2) := dk_16 32 (dk_at dksX54_putNumber_1 21 rfl rfl)
theorem dX54_putNumber_46 : decode cX54_putNumber 46 = .ok (.invokevirtual 176, 3) := dk_182 0 176 (dk_at dksX54_putNumber_2 0 rfl rfl)
theorem dX54_putNumber_49 : decode cX54_putNumber 49 = .ok (.return_, 1) := dk_177 (dk_at dksX54_putNumber_2 3 rfl rfl)
abbrev cX54_putPart : ByteArray := prog_61_method_49_code
def yX54_putPart : MethodName := ⟨RX54, "putPart", "(I)V"⟩
def dkwX54_putPart_7 : List UInt8 := [42, 16, 6, 27, 42, 180, 0, 38, 27, 46, 182, 0, 185, 177]
abbrev dktX54_putPart_7 : List UInt8 := dkwX54_putPart_7 ++ []
def dkwX54_putPart_6 : List UInt8 := [155, 0, 15, 42, 8, 27, 42, 180, 0, 35, 27, 46, 182, 0, 185, 42, 180, 0, 38, 27, 46, 158, 0, 16]
abbrev dktX54_putPart_6 : List UInt8 := dkwX54_putPart_6 ++ dktX54_putPart_7
def dkwX54_putPart_5 : List UInt8 := [153, 0, 10, 42, 7, 27, 28, 182, 0, 185, 132, 2, 1, 167, 255, 226, 42, 180, 0, 35, 27, 46]
abbrev dktX54_putPart_5 : List UInt8 := dkwX54_putPart_5 ++ dktX54_putPart_6
def dkwX54_putPart_4 : List UInt8 := [167, 255, 202, 3, 61, 28, 16, 8, 162, 0, 30, 42, 180, 0, 32, 16, 8, 27, 104, 28, 96, 51]
abbrev dktX54_putPart_4 : List UInt8 := dkwX54_putPart_4 ++ dktX54_putPart_5
def dkwX54_putPart_3 : List UInt8 := [153, 0, 15, 42, 5, 27, 28, 182, 0, 185, 42, 29, 182, 0, 182, 132, 3, 1, 167, 255, 216, 132, 2, 1]
abbrev dktX54_putPart_3 : List UInt8 := dkwX54_putPart_3 ++ dktX54_putPart_4
def dkwX54_putPart_2 : List UInt8 := [3, 62, 29, 42, 180, 0, 7, 3, 46, 162, 0, 36, 42, 180, 0, 23, 3, 27, 28, 29, 184, 0, 61, 51]
abbrev dktX54_putPart_2 : List UInt8 := dkwX54_putPart_2 ++ dktX54_putPart_3
def dkwX54_putPart_1 : List UInt8 := [153, 0, 10, 42, 4, 27, 28, 182, 0, 185, 132, 2, 1, 167, 255, 222, 3, 61, 28, 16, 6, 162, 0, 54]
abbrev dktX54_putPart_1 : List UInt8 := dkwX54_putPart_1 ++ dktX54_putPart_2
def dkwX54_putPart_0 : List UInt8 := [3, 61, 28, 42, 180, 0, 7, 3, 46, 162, 0, 30, 42, 180, 0, 19, 16, 10, 27, 104, 28, 96, 51]
abbrev dktX54_putPart_0 : List UInt8 := dkwX54_putPart_0 ++ dktX54_putPart_1
theorem dksX54_putPart_0 : cX54_putPart.data.toList.drop 0 = dktX54_putPart_0 := by decide +kernel
theorem dksX54_putPart_1 : cX54_putPart.data.toList.drop 23 = dktX54_putPart_1 := dk_seg dksX54_putPart_0 23 rfl rfl
theorem dksX54_putPart_2 : cX54_putPart.data.toList.drop 47 = dktX54_putPart_2 := dk_seg dksX54_putPart_1 24 rfl rfl
theorem dksX54_putPart_3 : cX54_putPart.data.toList.drop 71 = dktX54_putPart_3 := dk_seg dksX54_putPart_2 24 rfl rfl
theorem dksX54_putPart_4 : cX54_putPart.data.toList.drop 95 = dktX54_putPart_4 := dk_seg dksX54_putPart_3 24 rfl rfl
theorem dksX54_putPart_5 : cX54_putPart.data.toList.drop 117 = dktX54_putPart_5 := dk_seg dksX54_putPart_4 22 rfl rfl
theorem dksX54_putPart_6 : cX54_putPart.data.toList.drop 139 = dktX54_putPart_6 := dk_seg dksX54_putPart_5 22 rfl rfl
theorem dksX54_putPart_7 : cX54_putPart.data.toList.drop 163 = dktX54_putPart_7 := dk_seg dksX54_putPart_6 24 rfl rfl
theorem dX54_putPart_0 : decode cX54_putPart 0 = .ok (.iconst 0, 1) := dk_3 (dk_at dksX54_putPart_0 0 rfl rfl)
theorem dX54_putPart_1 : decode cX54_putPart 1 = .ok (.istore_n 2, 1) := dk_61 (dk_at dksX54_putPart_0 1 rfl rfl)
theorem dX54_putPart_2 : decode cX54_putPart 2 = .ok (.iload_n 2, 1) := dk_28 (dk_at dksX54_putPart_0 2 rfl rfl)
theorem dX54_putPart_3 : decode cX54_putPart 3 = .ok (.aload_n 0, 1) := dk_42 (dk_at dksX54_putPart_0 3 rfl rfl)
theorem dX54_putPart_4 : decode cX54_putPart 4 = .ok (.getfield 7, 3) := dk_180 0 7 (dk_at dksX54_putPart_0 4 rfl rfl)
theorem dX54_putPart_7 : decode cX54_putPart 7 = .ok (.iconst 0, 1) := dk_3 (dk_at dksX54_putPart_0 7 rfl rfl)
theorem dX54_putPart_8 : decode cX54_putPart 8 = .ok (.iaload, 1) := dk_46 (dk_at dksX54_putPart_0 8 rfl rfl)
theorem dX54_putPart_9 : decode cX54_putPart 9 = .ok (.if_icmp .ge 30, 3) := dk_162 0 30 (dk_at dksX54_putPart_0 9 rfl rfl)
theorem dX54_putPart_12 : decode cX54_putPart 12 = .ok (.aload_n 0, 1) := dk_42 (dk_at dksX54_putPart_0 12 rfl rfl)
theorem dX54_putPart_13 : decode cX54_putPart 13 = .ok (.getfield 19, 3) := dk_180 0 19 (dk_at dksX54_putPart_0 13 rfl rfl)
theorem dX54_putPart_16 : decode cX54_putPart 16 = .ok (.bipush 10, 2) := dk_16 10 (dk_at dksX54_putPart_0 16 rfl rfl)
theorem dX54_putPart_18 : decode cX54_putPart 18 = .ok (.iload_n 1, 1) := dk_27 (dk_at dksX54_putPart_0 18 rfl rfl)
theorem dX54_putPart_19 : decode cX54_putPart 19 = .ok (.imul, 1) := dk_104 (dk_at dksX54_putPart_0 19 rfl rfl)
theorem dX54_putPart_20 : decode cX54_putPart 20 = .ok (.iload_n 2, 1) := dk_28 (dk_at dksX54_putPart_0 20 rfl rfl)
theorem dX54_putPart_21 : decode cX54_putPart 21 = .ok (.iadd, 1) := dk_96 (dk_at dksX54_putPart_0 21 rfl rfl)
theorem dX54_putPart_22 : decode cX54_putPart 22 = .ok (.baload, 1) := dk_51 (dk_at dksX54_putPart_0 22 rfl rfl)
theorem dX54_putPart_23 : decode cX54_putPart 23 = .ok (.ifCond .eq 10, 3) := dk_153 0 10 (dk_at dksX54_putPart_1 0 rfl rfl)
theorem dX54_putPart_26 : decode cX54_putPart 26 = .ok (.aload_n 0, 1) := dk_42 (dk_at dksX54_putPart_1 3 rfl rfl)
theorem dX54_putPart_27 : decode cX54_putPart 27 = .ok (.iconst 1, 1) := dk_4 (dk_at dksX54_putPart_1 4 rfl rfl)
theorem dX54_putPart_28 : decode cX54_putPart 28 = .ok (.iload_n 1, 1) := dk_27 (dk_at dksX54_putPart_1 5 rfl rfl)
theorem dX54_putPart_29 : decode cX54_putPart 29 = .ok (.iload_n 2, 1) := dk_28 (dk_at dksX54_putPart_1 6 rfl rfl)
theorem dX54_putPart_30 : decode cX54_putPart 30 = .ok (.invokevirtual 185, 3) := dk_182 0 185 (dk_at dksX54_putPart_1 7 rfl rfl)
theorem dX54_putPart_33 : decode cX54_putPart 33 = .ok (.iinc 2 1, 3) := dk_132 2 1 (dk_at dksX54_putPart_1 10 rfl rfl)
theorem dX54_putPart_36 : decode cX54_putPart 36 = .ok (.goto (-34), 3) := dk_167 255 222 (dk_at dksX54_putPart_1 13 rfl rfl)
theorem dX54_putPart_39 : decode cX54_putPart 39 = .ok (.iconst 0, 1) := dk_3 (dk_at dksX54_putPart_1 16 rfl rfl)
theorem dX54_putPart_40 : decode cX54_putPart 40 = .ok (.istore_n 2, 1) := dk_61 (dk_at dksX54_putPart_1 17 rfl rfl)
theorem dX54_putPart_41 : decode cX54_putPart 41 = .ok (.iload_n 2, 1) := dk_28 (dk_at dksX54_putPart_1 18 rfl rfl)
theorem dX54_putPart_42 : decode cX54_putPart 42 = .ok (.bipush 6, 2) := dk_16 6 (dk_at dksX54_putPart_1 19 rfl rfl)
theorem dX54_putPart_44 : decode cX54_putPart 44 = .ok (.if_icmp .ge 54, 3) := dk_162 0 54 (dk_at dksX54_putPart_1 21 rfl rfl)
theorem dX54_putPart_47 : decode cX54_putPart 47 = .ok (.iconst 0, 1) := dk_3 (dk_at dksX54_putPart_2 0 rfl rfl)
theorem dX54_putPart_48 : decode cX54_putPart 48 = .ok (.istore_n 3, 1) := dk_62 (dk_at dksX54_putPart_2 1 rfl rfl)
theorem dX54_putPart_49 : decode cX54_putPart 49 = .ok (.iload_n 3, 1) := dk_29 (dk_at dksX54_putPart_2 2 rfl rfl)
theorem dX54_putPart_50 : decode cX54_putPart 50 = .ok (.aload_n 0, 1) := dk_42 (dk_at dksX54_putPart_2 3 rfl rfl)
theorem dX54_putPart_51 : decode cX54_putPart 51 = .ok (.getfield 7, 3) := dk_180 0 7 (dk_at dksX54_putPart_2 4 rfl rfl)
theorem dX54_putPart_54 : decode cX54_putPart 54 = .ok (.iconst 0, 1) := dk_3 (dk_at dksX54_putPart_2 7 rfl rfl)
theorem dX54_putPart_55 : decode cX54_putPart 55 = .ok (.iaload, 1) := dk_46 (dk_at dksX54_putPart_2 8 rfl rfl)
theorem dX54_putPart_56 : decode cX54_putPart 56 = .ok (.if_icmp .ge 36, 3) := dk_162 0 36 (dk_at dksX54_putPart_2 9 rfl rfl)
theorem dX54_putPart_59 : decode cX54_putPart 59 = .ok (.aload_n 0, 1) := dk_42 (dk_at dksX54_putPart_2 12 rfl rfl)
theorem dX54_putPart_60 : decode cX54_putPart 60 = .ok (.getfield 23, 3) := dk_180 0 23 (dk_at dksX54_putPart_2 13 rfl rfl)
theorem dX54_putPart_63 : decode cX54_putPart 63 = .ok (.iconst 0, 1) := dk_3 (dk_at dksX54_putPart_2 16 rfl rfl)
theorem dX54_putPart_64 : decode cX54_putPart 64 = .ok (.iload_n 1, 1) := dk_27 (dk_at dksX54_putPart_2 17 rfl rfl)
theorem dX54_putPart_65 : decode cX54_putPart 65 = .ok (.iload_n 2, 1) := dk_28 (dk_at dksX54_putPart_2 18 rfl rfl)
theorem dX54_putPart_66 : decode cX54_putPart 66 = .ok (.iload_n 3, 1) := dk_29 (dk_at dksX54_putPart_2 19 rfl rfl)
theorem dX54_putPart_67 : decode cX54_putPart 67 = .ok (.invokestatic 61, 3) := dk_184 0 61 (dk_at dksX54_putPart_2 20 rfl rfl)
theorem dX54_putPart_70 : decode cX54_putPart 70 = .ok (.baload, 1) := dk_51 (dk_at dksX54_putPart_2 23 rfl rfl)
theorem dX54_putPart_71 : decode cX54_putPart 71 = .ok (.ifCond .eq 15, 3) := dk_153 0 15 (dk_at dksX54_putPart_3 0 rfl rfl)
theorem dX54_putPart_74 : decode cX54_putPart 74 = .ok (.aload_n 0, 1) := dk_42 (dk_at dksX54_putPart_3 3 rfl rfl)
theorem dX54_putPart_75 : decode cX54_putPart 75 = .ok (.iconst 2, 1) := dk_5 (dk_at dksX54_putPart_3 4 rfl rfl)
theorem dX54_putPart_76 : decode cX54_putPart 76 = .ok (.iload_n 1, 1) := dk_27 (dk_at dksX54_putPart_3 5 rfl rfl)
theorem dX54_putPart_77 : decode cX54_putPart 77 = .ok (.iload_n 2, 1) := dk_28 (dk_at dksX54_putPart_3 6 rfl rfl)
theorem dX54_putPart_78 : decode cX54_putPart 78 = .ok (.invokevirtual 185, 3) := dk_182 0 185 (dk_at dksX54_putPart_3 7 rfl rfl)
theorem dX54_putPart_81 : decode cX54_putPart 81 = .ok (.aload_n 0, 1) := dk_42 (dk_at dksX54_putPart_3 10 rfl rfl)
theorem dX54_putPart_82 : decode cX54_putPart 82 = .ok (.iload_n 3, 1) := dk_29 (dk_at dksX54_putPart_3 11 rfl rfl)
theorem dX54_putPart_83 : decode cX54_putPart 83 = .ok (.invokevirtual 182, 3) := dk_182 0 182 (dk_at dksX54_putPart_3 12 rfl rfl)
theorem dX54_putPart_86 : decode cX54_putPart 86 = .ok (.iinc 3 1, 3) := dk_132 3 1 (dk_at dksX54_putPart_3 15 rfl rfl)
theorem dX54_putPart_89 : decode cX54_putPart 89 = .ok (.goto (-40), 3) := dk_167 255 216 (dk_at dksX54_putPart_3 18 rfl rfl)
theorem dX54_putPart_92 : decode cX54_putPart 92 = .ok (.iinc 2 1, 3) := dk_132 2 1 (dk_at dksX54_putPart_3 21 rfl rfl)
theorem dX54_putPart_95 : decode cX54_putPart 95 = .ok (.goto (-54), 3) := dk_167 255 202 (dk_at dksX54_putPart_4 0 rfl rfl)
theorem dX54_putPart_98 : decode cX54_putPart 98 = .ok (.iconst 0, 1) := dk_3 (dk_at dksX54_putPart_4 3 rfl rfl)
theorem dX54_putPart_99 : decode cX54_putPart 99 = .ok (.istore_n 2, 1) := dk_61 (dk_at dksX54_putPart_4 4 rfl rfl)
theorem dX54_putPart_100 : decode cX54_putPart 100 = .ok (.iload_n 2, 1) := dk_28 (dk_at dksX54_putPart_4 5 rfl rfl)
theorem dX54_putPart_101 : decode cX54_putPart 101 = .ok (.bipush 8, 2) := dk_16 8 (dk_at dksX54_putPart_4 6 rfl rfl)
theorem dX54_putPart_103 : decode cX54_putPart 103 = .ok (.if_icmp .ge 30, 3) := dk_162 0 30 (dk_at dksX54_putPart_4 8 rfl rfl)
theorem dX54_putPart_106 : decode cX54_putPart 106 = .ok (.aload_n 0, 1) := dk_42 (dk_at dksX54_putPart_4 11 rfl rfl)
theorem dX54_putPart_107 : decode cX54_putPart 107 = .ok (.getfield 32, 3) := dk_180 0 32 (dk_at dksX54_putPart_4 12 rfl rfl)
theorem dX54_putPart_110 : decode cX54_putPart 110 = .ok (.bipush 8, 2) := dk_16 8 (dk_at dksX54_putPart_4 15 rfl rfl)
theorem dX54_putPart_112 : decode cX54_putPart 112 = .ok (.iload_n 1, 1) := dk_27 (dk_at dksX54_putPart_4 17 rfl rfl)
theorem dX54_putPart_113 : decode cX54_putPart 113 = .ok (.imul, 1) := dk_104 (dk_at dksX54_putPart_4 18 rfl rfl)
theorem dX54_putPart_114 : decode cX54_putPart 114 = .ok (.iload_n 2, 1) := dk_28 (dk_at dksX54_putPart_4 19 rfl rfl)
theorem dX54_putPart_115 : decode cX54_putPart 115 = .ok (.iadd, 1) := dk_96 (dk_at dksX54_putPart_4 20 rfl rfl)
theorem dX54_putPart_116 : decode cX54_putPart 116 = .ok (.baload, 1) := dk_51 (dk_at dksX54_putPart_4 21 rfl rfl)
theorem dX54_putPart_117 : decode cX54_putPart 117 = .ok (.ifCond .eq 10, 3) := dk_153 0 10 (dk_at dksX54_putPart_5 0 rfl rfl)
theorem dX54_putPart_120 : decode cX54_putPart 120 = .ok (.aload_n 0, 1) := dk_42 (dk_at dksX54_putPart_5 3 rfl rfl)
theorem dX54_putPart_121 : decode cX54_putPart 121 = .ok (.iconst 4, 1) := dk_7 (dk_at dksX54_putPart_5 4 rfl rfl)
theorem dX54_putPart_122 : decode cX54_putPart 122 = .ok (.iload_n 1, 1) := dk_27 (dk_at dksX54_putPart_5 5 rfl rfl)
theorem dX54_putPart_123 : decode cX54_putPart 123 = .ok (.iload_n 2, 1) := dk_28 (dk_at dksX54_putPart_5 6 rfl rfl)
theorem dX54_putPart_124 : decode cX54_putPart 124 = .ok (.invokevirtual 185, 3) := dk_182 0 185 (dk_at dksX54_putPart_5 7 rfl rfl)
theorem dX54_putPart_127 : decode cX54_putPart 127 = .ok (.iinc 2 1, 3) := dk_132 2 1 (dk_at dksX54_putPart_5 10 rfl rfl)
theorem dX54_putPart_130 : decode cX54_putPart 130 = .ok (.goto (-30), 3) := dk_167 255 226 (dk_at dksX54_putPart_5 13 rfl rfl)
theorem dX54_putPart_133 : decode cX54_putPart 133 = .ok (.aload_n 0, 1) := dk_42 (dk_at dksX54_putPart_5 16 rfl rfl)
theorem dX54_putPart_134 : decode cX54_putPart 134 = .ok (.getfield 35, 3) := dk_180 0 35 (dk_at dksX54_putPart_5 17 rfl rfl)
theorem dX54_putPart_137 : decode cX54_putPart 137 = .ok (.iload_n 1, 1) := dk_27 (dk_at dksX54_putPart_5 20 rfl rfl)
theorem dX54_putPart_138 : decode cX54_putPart 138 = .ok (.iaload, 1) := dk_46 (dk_at dksX54_putPart_5 21 rfl rfl)
theorem dX54_putPart_139 : decode cX54_putPart 139 = .ok (.ifCond .lt 15, 3) := dk_155 0 15 (dk_at dksX54_putPart_6 0 rfl rfl)
theorem dX54_putPart_142 : decode cX54_putPart 142 = .ok (.aload_n 0, 1) := dk_42 (dk_at dksX54_putPart_6 3 rfl rfl)
theorem dX54_putPart_143 : decode cX54_putPart 143 = .ok (.iconst 5, 1) := dk_8 (dk_at dksX54_putPart_6 4 rfl rfl)
theorem dX54_putPart_144 : decode cX54_putPart 144 = .ok (.iload_n 1, 1) := dk_27 (dk_at dksX54_putPart_6 5 rfl rfl)
theorem dX54_putPart_145 : decode cX54_putPart 145 = .ok (.aload_n 0, 1) := dk_42 (dk_at dksX54_putPart_6 6 rfl rfl)
theorem dX54_putPart_146 : decode cX54_putPart 146 = .ok (.getfield 35, 3) := dk_180 0 35 (dk_at dksX54_putPart_6 7 rfl rfl)
theorem dX54_putPart_149 : decode cX54_putPart 149 = .ok (.iload_n 1, 1) := dk_27 (dk_at dksX54_putPart_6 10 rfl rfl)
theorem dX54_putPart_150 : decode cX54_putPart 150 = .ok (.iaload, 1) := dk_46 (dk_at dksX54_putPart_6 11 rfl rfl)
theorem dX54_putPart_151 : decode cX54_putPart 151 = .ok (.invokevirtual 185, 3) := dk_182 0 185 (dk_at dksX54_putPart_6 12 rfl rfl)
theorem dX54_putPart_154 : decode cX54_putPart 154 = .ok (.aload_n 0, 1) := dk_42 (dk_at dksX54_putPart_6 15 rfl rfl)
theorem dX54_putPart_155 : decode cX54_putPart 155 = .ok (.getfield 38, 3) := dk_180 0 38 (dk_at dksX54_putPart_6 16 rfl rfl)
theorem dX54_putPart_158 : decode cX54_putPart 158 = .ok (.iload_n 1, 1) := dk_27 (dk_at dksX54_putPart_6 19 rfl rfl)
theorem dX54_putPart_159 : decode cX54_putPart 159 = .ok (.iaload, 1) := dk_46 (dk_at dksX54_putPart_6 20 rfl rfl)
theorem dX54_putPart_160 : decode cX54_putPart 160 = .ok (.ifCond .le 16, 3) := dk_158 0 16 (dk_at dksX54_putPart_6 21 rfl rfl)
theorem dX54_putPart_163 : decode cX54_putPart 163 = .ok (.aload_n 0, 1) := dk_42 (dk_at dksX54_putPart_7 0 rfl rfl)
theorem dX54_putPart_164 : decode cX54_putPart 164 = .ok (.bipush 6, 2) := dk_16 6 (dk_at dksX54_putPart_7 1 rfl rfl)
theorem dX54_putPart_166 : decode cX54_putPart 166 = .ok (.iload_n 1, 1) := dk_27 (dk_at dksX54_putPart_7 3 rfl rfl)
theorem dX54_putPart_167 : decode cX54_putPart 167 = .ok (.aload_n 0, 1) := dk_42 (dk_at dksX54_putPart_7 4 rfl rfl)
theorem dX54_putPart_168 : decode cX54_putPart 168 = .ok (.getfield 38, 3) := dk_180 0 38 (dk_at dksX54_putPart_7 5 rfl rfl)
theorem dX54_putPart_171 : decode cX54_putPart 171 = .ok (.iload_n 1, 1) := dk_27 (dk_at dksX54_putPart_7 8 rfl rfl)
theorem dX54_putPart_172 : decode cX54_putPart 172 = .ok (.iaload, 1) := dk_46 (dk_at dksX54_putPart_7 9 rfl rfl)
theorem dX54_putPart_173 : decode cX54_putPart 173 = .ok (.invokevirtual 185, 3) := dk_182 0 185 (dk_at dksX54_putPart_7 10 rfl rfl)
theorem dX54_putPart_176 : decode cX54_putPart 176 = .ok (.return_, 1) := dk_177 (dk_at dksX54_putPart_7 13 rfl rfl)
abbrev cX54_loose : ByteArray := prog_61_method_43_code
def yX54_loose : MethodName := ⟨RX54, "loose", "()I"⟩
def dkwX54_loose_3 : List UInt8 := [132, 2, 1, 167, 255, 190, 27, 172]
abbrev dktX54_loose_3 : List UInt8 := dkwX54_loose_3 ++ []
def dkwX54_loose_2 : List UInt8 := [4, 167, 0, 4, 3, 62, 132, 4, 1, 167, 255, 223, 27, 29, 153, 0, 7, 4, 167, 0, 4, 3, 96, 60]
abbrev dktX54_loose_2 : List UInt8 := dkwX54_loose_2 ++ dktX54_loose_3
def dkwX54_loose_1 : List UInt8 := [21, 4, 28, 162, 0, 33, 29, 153, 0, 21, 42, 28, 9, 182, 0, 161, 21, 4, 184, 0, 138, 154, 0, 7]
abbrev dktX54_loose_1 : List UInt8 := dkwX54_loose_1 ++ dktX54_loose_2
def dkwX54_loose_0 : List UInt8 := [42, 3, 181, 0, 52, 3, 60, 3, 61, 28, 42, 180, 0, 7, 3, 46, 162, 0, 62, 4, 62, 3, 54, 4]
abbrev dktX54_loose_0 : List UInt8 := dkwX54_loose_0 ++ dktX54_loose_1
theorem dksX54_loose_0 : cX54_loose.data.toList.drop 0 = dktX54_loose_0 := by decide +kernel
theorem dksX54_loose_1 : cX54_loose.data.toList.drop 24 = dktX54_loose_1 := dk_seg dksX54_loose_0 24 rfl rfl
theorem dksX54_loose_2 : cX54_loose.data.toList.drop 48 = dktX54_loose_2 := dk_seg dksX54_loose_1 24 rfl rfl
theorem dksX54_loose_3 : cX54_loose.data.toList.drop 72 = dktX54_loose_3 := dk_seg dksX54_loose_2 24 rfl rfl
theorem dX54_loose_0 : decode cX54_loose 0 = .ok (.aload_n 0, 1) := dk_42 (dk_at dksX54_loose_0 0 rfl rfl)
theorem dX54_loose_1 : decode cX54_loose 1 = .ok (.iconst 0, 1) := dk_3 (dk_at dksX54_loose_0 1 rfl rfl)
theorem dX54_loose_2 : decode cX54_loose 2 = .ok (.putfield 52, 3) := dk_181 0 52 (dk_at dksX54_loose_0 2 rfl rfl)
theorem dX54_loose_5 : decode cX54_loose 5 = .ok (.iconst 0, 1) := dk_3 (dk_at dksX54_loose_0 5 rfl rfl)
theorem dX54_loose_6 : decode cX54_loose 6 = .ok (.istore_n 1, 1) := dk_60 (dk_at dksX54_loose_0 6 rfl rfl)
theorem dX54_loose_7 : decode cX54_loose 7 = .ok (.iconst 0, 1) := dk_3 (dk_at dksX54_loose_0 7 rfl rfl)
theorem dX54_loose_8 : decode cX54_loose 8 = .ok (.istore_n 2, 1) := dk_61 (dk_at dksX54_loose_0 8 rfl rfl)
theorem dX54_loose_9 : decode cX54_loose 9 = .ok (.iload_n 2, 1) := dk_28 (dk_at dksX54_loose_0 9 rfl rfl)
theorem dX54_loose_10 : decode cX54_loose 10 = .ok (.aload_n 0, 1) := dk_42 (dk_at dksX54_loose_0 10 rfl rfl)
theorem dX54_loose_11 : decode cX54_loose 11 = .ok (.getfield 7, 3) := dk_180 0 7 (dk_at dksX54_loose_0 11 rfl rfl)
theorem dX54_loose_14 : decode cX54_loose 14 = .ok (.iconst 0, 1) := dk_3 (dk_at dksX54_loose_0 14 rfl rfl)
theorem dX54_loose_15 : decode cX54_loose 15 = .ok (.iaload, 1) := dk_46 (dk_at dksX54_loose_0 15 rfl rfl)
theorem dX54_loose_16 : decode cX54_loose 16 = .ok (.if_icmp .ge 62, 3) := dk_162 0 62 (dk_at dksX54_loose_0 16 rfl rfl)
theorem dX54_loose_19 : decode cX54_loose 19 = .ok (.iconst 1, 1) := dk_4 (dk_at dksX54_loose_0 19 rfl rfl)
theorem dX54_loose_20 : decode cX54_loose 20 = .ok (.istore_n 3, 1) := dk_62 (dk_at dksX54_loose_0 20 rfl rfl)
theorem dX54_loose_21 : decode cX54_loose 21 = .ok (.iconst 0, 1) := dk_3 (dk_at dksX54_loose_0 21 rfl rfl)
theorem dX54_loose_22 : decode cX54_loose 22 = .ok (.istore 4, 2) := dk_54 4 (dk_at dksX54_loose_0 22 rfl rfl)
theorem dX54_loose_24 : decode cX54_loose 24 = .ok (.iload 4, 2) := dk_21 4 (dk_at dksX54_loose_1 0 rfl rfl)
theorem dX54_loose_26 : decode cX54_loose 26 = .ok (.iload_n 2, 1) := dk_28 (dk_at dksX54_loose_1 2 rfl rfl)
theorem dX54_loose_27 : decode cX54_loose 27 = .ok (.if_icmp .ge 33, 3) := dk_162 0 33 (dk_at dksX54_loose_1 3 rfl rfl)
theorem dX54_loose_30 : decode cX54_loose 30 = .ok (.iload_n 3, 1) := dk_29 (dk_at dksX54_loose_1 6 rfl rfl)
theorem dX54_loose_31 : decode cX54_loose 31 = .ok (.ifCond .eq 21, 3) := dk_153 0 21 (dk_at dksX54_loose_1 7 rfl rfl)
theorem dX54_loose_34 : decode cX54_loose 34 = .ok (.aload_n 0, 1) := dk_42 (dk_at dksX54_loose_1 10 rfl rfl)
theorem dX54_loose_35 : decode cX54_loose 35 = .ok (.iload_n 2, 1) := dk_28 (dk_at dksX54_loose_1 11 rfl rfl)
theorem dX54_loose_36 : decode cX54_loose 36 = .ok (.lconst 0, 1) := dk_9 (dk_at dksX54_loose_1 12 rfl rfl)
theorem dX54_loose_37 : decode cX54_loose 37 = .ok (.invokevirtual 161, 3) := dk_182 0 161 (dk_at dksX54_loose_1 13 rfl rfl)
theorem dX54_loose_40 : decode cX54_loose 40 = .ok (.iload 4, 2) := dk_21 4 (dk_at dksX54_loose_1 16 rfl rfl)
theorem dX54_loose_42 : decode cX54_loose 42 = .ok (.invokestatic 138, 3) := dk_184 0 138 (dk_at dksX54_loose_1 18 rfl rfl)
theorem dX54_loose_45 : decode cX54_loose 45 = .ok (.ifCond .ne 7, 3) := dk_154 0 7 (dk_at dksX54_loose_1 21 rfl rfl)
theorem dX54_loose_48 : decode cX54_loose 48 = .ok (.iconst 1, 1) := dk_4 (dk_at dksX54_loose_2 0 rfl rfl)
theorem dX54_loose_49 : decode cX54_loose 49 = .ok (.goto 4, 3) := dk_167 0 4 (dk_at dksX54_loose_2 1 rfl rfl)
theorem dX54_loose_52 : decode cX54_loose 52 = .ok (.iconst 0, 1) := dk_3 (dk_at dksX54_loose_2 4 rfl rfl)
theorem dX54_loose_53 : decode cX54_loose 53 = .ok (.istore_n 3, 1) := dk_62 (dk_at dksX54_loose_2 5 rfl rfl)
theorem dX54_loose_54 : decode cX54_loose 54 = .ok (.iinc 4 1, 3) := dk_132 4 1 (dk_at dksX54_loose_2 6 rfl rfl)
theorem dX54_loose_57 : decode cX54_loose 57 = .ok (.goto (-33), 3) := dk_167 255 223 (dk_at dksX54_loose_2 9 rfl rfl)
theorem dX54_loose_60 : decode cX54_loose 60 = .ok (.iload_n 1, 1) := dk_27 (dk_at dksX54_loose_2 12 rfl rfl)
theorem dX54_loose_61 : decode cX54_loose 61 = .ok (.iload_n 3, 1) := dk_29 (dk_at dksX54_loose_2 13 rfl rfl)
theorem dX54_loose_62 : decode cX54_loose 62 = .ok (.ifCond .eq 7, 3) := dk_153 0 7 (dk_at dksX54_loose_2 14 rfl rfl)
theorem dX54_loose_65 : decode cX54_loose 65 = .ok (.iconst 1, 1) := dk_4 (dk_at dksX54_loose_2 17 rfl rfl)
theorem dX54_loose_66 : decode cX54_loose 66 = .ok (.goto 4, 3) := dk_167 0 4 (dk_at dksX54_loose_2 18 rfl rfl)
theorem dX54_loose_69 : decode cX54_loose 69 = .ok (.iconst 0, 1) := dk_3 (dk_at dksX54_loose_2 21 rfl rfl)
theorem dX54_loose_70 : decode cX54_loose 70 = .ok (.iadd, 1) := dk_96 (dk_at dksX54_loose_2 22 rfl rfl)
theorem dX54_loose_71 : decode cX54_loose 71 = .ok (.istore_n 1, 1) := dk_60 (dk_at dksX54_loose_2 23 rfl rfl)
theorem dX54_loose_72 : decode cX54_loose 72 = .ok (.iinc 2 1, 3) := dk_132 2 1 (dk_at dksX54_loose_3 0 rfl rfl)
theorem dX54_loose_75 : decode cX54_loose 75 = .ok (.goto (-66), 3) := dk_167 255 190 (dk_at dksX54_loose_3 3 rfl rfl)
theorem dX54_loose_78 : decode cX54_loose 78 = .ok (.iload_n 1, 1) := dk_27 (dk_at dksX54_loose_3 6 rfl rfl)
theorem dX54_loose_79 : decode cX54_loose 79 = .ok (.ireturn, 1) := dk_172 (dk_at dksX54_loose_3 7 rfl rfl)
abbrev cX54_thrown : ByteArray := prog_61_method_2_code
def yX54_thrown : MethodName := ⟨RX54, "thrown", "()I"⟩
theorem dX54_thrown_0 : decode cX54_thrown 0 = .ok (.aload_n 0, 1) := by decide +kernel
theorem dX54_thrown_1 : decode cX54_thrown 1 = .ok (.getfield 52, 3) := by decide +kernel
theorem dX54_thrown_4 : decode cX54_thrown 4 = .ok (.ireturn, 1) := by decide +kernel
theorem q460 : (Jvm.Cond.initialized "WasteHouseModel$PartGraphsModel") ∈ lw_all := lw_g (lw_at lw_m1 68 rfl) rfl
theorem q2029 : (Jvm.Cond.selects "WasteHouseModel$PartGraphsModel" ({ cls := "java/lang/Object", name := "getClass", desc := "()Ljava/lang/Class;" } : Jvm.MethodName) ({ cls := "java/lang/Object", name := "getClass", desc := "()Ljava/lang/Class;" } : Jvm.MethodName)) ∈ lw_all := lw_g (lw_at lw_m7 197 rfl) rfl
theorem q3139 : (Jvm.Cond.selects "WasteHouseModel$PartGraphsModel" ({ cls := "java/lang/Object", name := "equals", desc := "(Ljava/lang/Object;)Z" } : Jvm.MethodName) ({ cls := "java/lang/Object", name := "equals", desc := "(Ljava/lang/Object;)Z" } : Jvm.MethodName)) ∈ lw_all := lw_g (lw_at lw_m12 107 rfl) rfl
theorem q3657 : (Jvm.Cond.selects "WasteHouseModel$PartGraphsModel" ({ cls := "java/lang/Object", name := "hashCode", desc := "()I" } : Jvm.MethodName) ({ cls := "java/lang/Object", name := "hashCode", desc := "()I" } : Jvm.MethodName)) ∈ lw_all := lw_g (lw_at lw_m14 145 rfl) rfl
theorem q7155 : (Jvm.Cond.instantiable "WasteHouseModel$PartGraphsModel" (18 : Nat)) ∈ lw_all := lw_g (lw_at lw_m29 43 rfl) rfl
theorem q7157 : (Jvm.Cond.instanceMethod ({ cls := "WasteHouseModel$PartGraphsModel", name := "<init>", desc := "()V" } : Jvm.MethodName)) ∈ lw_all := lw_g (lw_at lw_m29 45 rfl) rfl
theorem q7158 : (Jvm.Cond.code ({ cls := "WasteHouseModel$PartGraphsModel", name := "<init>", desc := "()V" } : Jvm.MethodName) prog_61_method_1_code (1 : Nat) (Option.none : Option Jvm.ClassFile.FieldType)) ∈ lw_all := lw_g (lw_at lw_m29 46 rfl) rfl
theorem q7159 : (Jvm.Cond.methodLink "WasteHouseModel$PartGraphsModel" (1 : Nat) ({ cls := "java/lang/Object", name := "<init>", desc := "()V" } : Jvm.MethodName)) ∈ lw_all := lw_g (lw_at lw_m29 47 rfl) rfl
theorem q7160 : (Jvm.Cond.methodLink "WasteHouseModel$PartGraphsModel" (48 : Nat) ({ cls := "WasteHouseModel$PartGraphsModel", name := "clear", desc := "(I)V" } : Jvm.MethodName)) ∈ lw_all := lw_g (lw_at lw_m29 48 rfl) rfl
theorem q7161 : (Jvm.Cond.privateMethod ({ cls := "WasteHouseModel$PartGraphsModel", name := "clear", desc := "(I)V" } : Jvm.MethodName)) ∈ lw_tbl := lw_at lw_m29 49 rfl
theorem q7162 : (Jvm.Cond.instanceMethod ({ cls := "WasteHouseModel$PartGraphsModel", name := "clear", desc := "(I)V" } : Jvm.MethodName)) ∈ lw_all := lw_g (lw_at lw_m29 50 rfl) rfl
theorem q7163 : (Jvm.Cond.code ({ cls := "WasteHouseModel$PartGraphsModel", name := "clear", desc := "(I)V" } : Jvm.MethodName) prog_61_method_3_code (3 : Nat) (Option.none : Option Jvm.ClassFile.FieldType)) ∈ lw_all := lw_g (lw_at lw_m29 51 rfl) rfl
theorem q7164 : (Jvm.Cond.fieldLink "WasteHouseModel$PartGraphsModel" (7 : Nat) "WasteHouseModel$PartGraphsModel" "parts" "[I") ∈ lw_all := lw_g (lw_at lw_m29 52 rfl) rfl
theorem q7166 : (Jvm.Cond.fieldLink "WasteHouseModel$PartGraphsModel" (13 : Nat) "WasteHouseModel$PartGraphsModel" "kinds" "[I") ∈ lw_all := lw_g (lw_at lw_m29 54 rfl) rfl
theorem q7168 : (Jvm.Cond.fieldLink "WasteHouseModel$PartGraphsModel" (16 : Nat) "WasteHouseModel$PartGraphsModel" "grams" "[I") ∈ lw_all := lw_g (lw_at lw_m29 56 rfl) rfl
theorem q7170 : (Jvm.Cond.fieldLink "WasteHouseModel$PartGraphsModel" (19 : Nat) "WasteHouseModel$PartGraphsModel" "covers" "[Z") ∈ lw_all := lw_g (lw_at lw_m29 58 rfl) rfl
theorem q7171 : (Jvm.Cond.fieldLink "WasteHouseModel$PartGraphsModel" (23 : Nat) "WasteHouseModel$PartGraphsModel" "ways" "[Z") ∈ lw_all := lw_g (lw_at lw_m29 59 rfl) rfl
theorem q7172 : (Jvm.Cond.fieldLink "WasteHouseModel$PartGraphsModel" (26 : Nat) "WasteHouseModel$PartGraphsModel" "fastenings" "[I") ∈ lw_all := lw_g (lw_at lw_m29 60 rfl) rfl
theorem q7173 : (Jvm.Cond.fieldLink "WasteHouseModel$PartGraphsModel" (29 : Nat) "WasteHouseModel$PartGraphsModel" "ties" "[I") ∈ lw_all := lw_g (lw_at lw_m29 61 rfl) rfl
theorem q7174 : (Jvm.Cond.fieldLink "WasteHouseModel$PartGraphsModel" (32 : Nat) "WasteHouseModel$PartGraphsModel" "hazards" "[Z") ∈ lw_all := lw_g (lw_at lw_m29 62 rfl) rfl
theorem q7175 : (Jvm.Cond.fieldLink "WasteHouseModel$PartGraphsModel" (35 : Nat) "WasteHouseModel$PartGraphsModel" "families" "[I") ∈ lw_all := lw_g (lw_at lw_m29 63 rfl) rfl
theorem q7177 : (Jvm.Cond.fieldLink "WasteHouseModel$PartGraphsModel" (38 : Nat) "WasteHouseModel$PartGraphsModel" "damages" "[I") ∈ lw_all := lw_g (lw_at lw_m29 65 rfl) rfl
theorem q7178 : (Jvm.Cond.fieldLink "WasteHouseModel$PartGraphsModel" (41 : Nat) "WasteHouseModel$PartGraphsModel" "text" "[B") ∈ lw_all := lw_g (lw_at lw_m29 66 rfl) rfl
theorem q7179 : (Jvm.Cond.fieldLink "WasteHouseModel$PartGraphsModel" (69 : Nat) "WasteHouseModel$PartGraphsModel" "size" "I") ∈ lw_all := lw_g (lw_at lw_m29 67 rfl) rfl
theorem q7180 : (Jvm.Cond.fieldLink "WasteHouseModel$PartGraphsModel" (52 : Nat) "WasteHouseModel$PartGraphsModel" "fault" "I") ∈ lw_all := lw_g (lw_at lw_m29 68 rfl) rfl
theorem q7181 : (Jvm.Cond.fieldLink "WasteHouseModel$PartGraphsModel" (45 : Nat) "WasteHouseModel$PartGraphsModel" "numbers" "[I") ∈ lw_all := lw_g (lw_at lw_m29 69 rfl) rfl
theorem q7182 : (Jvm.Cond.fieldLink "WasteHouseModel$PartGraphsModel" (92 : Nat) "WasteHouseModel$PartGraphsModel" "at" "I") ∈ lw_all := lw_g (lw_at lw_m29 70 rfl) rfl
theorem q7183 : (Jvm.Cond.fieldLink "WasteHouseModel$PartGraphsModel" (168 : Nat) "WasteHouseModel$PartGraphsModel" "wanted" "I") ∈ lw_all := lw_g (lw_at lw_m29 71 rfl) rfl
theorem q7184 : (Jvm.Cond.fieldLink "WasteHouseModel$PartGraphsModel" (165 : Nat) "WasteHouseModel$PartGraphsModel" "written" "I") ∈ lw_all := lw_g (lw_at lw_m29 72 rfl) rfl
theorem q7185 : (Jvm.Cond.fieldLink "WasteHouseModel$PartGraphsModel" (171 : Nat) "WasteHouseModel$PartGraphsModel" "found" "I") ∈ lw_all := lw_g (lw_at lw_m29 73 rfl) rfl
theorem q7186 : (Jvm.Cond.laysFinal "WasteHouseModel$PartGraphsModel" "WasteHouseModel$PartGraphsModel" "parts" "[I") ∈ lw_all := lw_g (lw_at lw_m29 74 rfl) rfl
theorem q7187 : (Jvm.Cond.soleField "WasteHouseModel$PartGraphsModel" "parts") ∈ lw_all := lw_g (lw_at lw_m29 75 rfl) rfl
theorem q7188 : (Jvm.Cond.laysFinal "WasteHouseModel$PartGraphsModel" "WasteHouseModel$PartGraphsModel" "kinds" "[I") ∈ lw_all := lw_g (lw_at lw_m29 76 rfl) rfl
theorem q7189 : (Jvm.Cond.soleField "WasteHouseModel$PartGraphsModel" "kinds") ∈ lw_all := lw_g (lw_at lw_m29 77 rfl) rfl
theorem q7190 : (Jvm.Cond.laysFinal "WasteHouseModel$PartGraphsModel" "WasteHouseModel$PartGraphsModel" "grams" "[I") ∈ lw_all := lw_g (lw_at lw_m29 78 rfl) rfl
theorem q7191 : (Jvm.Cond.soleField "WasteHouseModel$PartGraphsModel" "grams") ∈ lw_all := lw_g (lw_at lw_m29 79 rfl) rfl
theorem q7192 : (Jvm.Cond.laysFinal "WasteHouseModel$PartGraphsModel" "WasteHouseModel$PartGraphsModel" "covers" "[Z") ∈ lw_all := lw_g (lw_at lw_m29 80 rfl) rfl
theorem q7193 : (Jvm.Cond.soleField "WasteHouseModel$PartGraphsModel" "covers") ∈ lw_all := lw_g (lw_at lw_m29 81 rfl) rfl
theorem q7194 : (Jvm.Cond.laysFinal "WasteHouseModel$PartGraphsModel" "WasteHouseModel$PartGraphsModel" "ways" "[Z") ∈ lw_all := lw_g (lw_at lw_m29 82 rfl) rfl
theorem q7195 : (Jvm.Cond.soleField "WasteHouseModel$PartGraphsModel" "ways") ∈ lw_all := lw_g (lw_at lw_m29 83 rfl) rfl
theorem q7196 : (Jvm.Cond.laysFinal "WasteHouseModel$PartGraphsModel" "WasteHouseModel$PartGraphsModel" "fastenings" "[I") ∈ lw_all := lw_g (lw_at lw_m29 84 rfl) rfl
theorem q7197 : (Jvm.Cond.soleField "WasteHouseModel$PartGraphsModel" "fastenings") ∈ lw_all := lw_g (lw_at lw_m29 85 rfl) rfl
theorem q7198 : (Jvm.Cond.laysFinal "WasteHouseModel$PartGraphsModel" "WasteHouseModel$PartGraphsModel" "ties" "[I") ∈ lw_all := lw_g (lw_at lw_m29 86 rfl) rfl
theorem q7199 : (Jvm.Cond.soleField "WasteHouseModel$PartGraphsModel" "ties") ∈ lw_all := lw_g (lw_at lw_m29 87 rfl) rfl
theorem q7200 : (Jvm.Cond.laysFinal "WasteHouseModel$PartGraphsModel" "WasteHouseModel$PartGraphsModel" "hazards" "[Z") ∈ lw_all := lw_g (lw_at lw_m29 88 rfl) rfl
theorem q7201 : (Jvm.Cond.soleField "WasteHouseModel$PartGraphsModel" "hazards") ∈ lw_all := lw_g (lw_at lw_m29 89 rfl) rfl
theorem q7202 : (Jvm.Cond.laysFinal "WasteHouseModel$PartGraphsModel" "WasteHouseModel$PartGraphsModel" "families" "[I") ∈ lw_all := lw_g (lw_at lw_m29 90 rfl) rfl
theorem q7203 : (Jvm.Cond.soleField "WasteHouseModel$PartGraphsModel" "families") ∈ lw_all := lw_g (lw_at lw_m29 91 rfl) rfl
theorem q7204 : (Jvm.Cond.laysFinal "WasteHouseModel$PartGraphsModel" "WasteHouseModel$PartGraphsModel" "damages" "[I") ∈ lw_all := lw_g (lw_at lw_m29 92 rfl) rfl
theorem q7205 : (Jvm.Cond.soleField "WasteHouseModel$PartGraphsModel" "damages") ∈ lw_all := lw_g (lw_at lw_m29 93 rfl) rfl
theorem q7206 : (Jvm.Cond.laysFinal "WasteHouseModel$PartGraphsModel" "WasteHouseModel$PartGraphsModel" "text" "[B") ∈ lw_all := lw_g (lw_at lw_m29 94 rfl) rfl
theorem q7207 : (Jvm.Cond.soleField "WasteHouseModel$PartGraphsModel" "text") ∈ lw_all := lw_g (lw_at lw_m29 95 rfl) rfl
theorem q7208 : (Jvm.Cond.lays "WasteHouseModel$PartGraphsModel" "WasteHouseModel$PartGraphsModel" "size" "I") ∈ lw_all := lw_g (lw_at lw_m29 96 rfl) rfl
theorem q7209 : (Jvm.Cond.soleField "WasteHouseModel$PartGraphsModel" "size") ∈ lw_all := lw_g (lw_at lw_m29 97 rfl) rfl
theorem q7210 : (Jvm.Cond.lays "WasteHouseModel$PartGraphsModel" "WasteHouseModel$PartGraphsModel" "fault" "I") ∈ lw_all := lw_g (lw_at lw_m29 98 rfl) rfl
theorem q7211 : (Jvm.Cond.soleField "WasteHouseModel$PartGraphsModel" "fault") ∈ lw_all := lw_g (lw_at lw_m29 99 rfl) rfl
theorem q7212 : (Jvm.Cond.laysFinal "WasteHouseModel$PartGraphsModel" "WasteHouseModel$PartGraphsModel" "numbers" "[I") ∈ lw_all := lw_g (lw_at lw_m29 100 rfl) rfl
theorem q7213 : (Jvm.Cond.soleField "WasteHouseModel$PartGraphsModel" "numbers") ∈ lw_all := lw_g (lw_at lw_m29 101 rfl) rfl
theorem q7214 : (Jvm.Cond.lays "WasteHouseModel$PartGraphsModel" "WasteHouseModel$PartGraphsModel" "at" "I") ∈ lw_all := lw_g (lw_at lw_m29 102 rfl) rfl
theorem q7215 : (Jvm.Cond.soleField "WasteHouseModel$PartGraphsModel" "at") ∈ lw_all := lw_g (lw_at lw_m29 103 rfl) rfl
theorem q7216 : (Jvm.Cond.lays "WasteHouseModel$PartGraphsModel" "WasteHouseModel$PartGraphsModel" "wanted" "I") ∈ lw_all := lw_g (lw_at lw_m29 104 rfl) rfl
theorem q7217 : (Jvm.Cond.soleField "WasteHouseModel$PartGraphsModel" "wanted") ∈ lw_all := lw_g (lw_at lw_m29 105 rfl) rfl
theorem q7218 : (Jvm.Cond.lays "WasteHouseModel$PartGraphsModel" "WasteHouseModel$PartGraphsModel" "written" "I") ∈ lw_all := lw_g (lw_at lw_m29 106 rfl) rfl
theorem q7219 : (Jvm.Cond.soleField "WasteHouseModel$PartGraphsModel" "written") ∈ lw_all := lw_g (lw_at lw_m29 107 rfl) rfl
theorem q7220 : (Jvm.Cond.lays "WasteHouseModel$PartGraphsModel" "WasteHouseModel$PartGraphsModel" "found" "I") ∈ lw_all := lw_g (lw_at lw_m29 108 rfl) rfl
theorem q7221 : (Jvm.Cond.soleField "WasteHouseModel$PartGraphsModel" "found") ∈ lw_all := lw_g (lw_at lw_m29 109 rfl) rfl
theorem q7222 : (Jvm.Cond.superclass "WasteHouseModel$PartGraphsModel" "java/lang/Object") ∈ lw_all := lw_g (lw_at lw_m29 110 rfl) rfl
theorem q8138 : (Jvm.Cond.instanceMethod ({ cls := "WasteHouseModel$PartGraphsModel", name := "ring", desc := "(I)I" } : Jvm.MethodName)) ∈ lw_all := lw_g (lw_at lw_m33 66 rfl) rfl
theorem q8139 : (Jvm.Cond.selects "WasteHouseModel$PartGraphsModel" ({ cls := "WasteHouseModel$PartGraphsModel", name := "ring", desc := "(I)I" } : Jvm.MethodName) ({ cls := "WasteHouseModel$PartGraphsModel", name := "ring", desc := "(I)I" } : Jvm.MethodName)) ∈ lw_all := lw_g (lw_at lw_m33 67 rfl) rfl
theorem q8140 : (Jvm.Cond.code ({ cls := "WasteHouseModel$PartGraphsModel", name := "ring", desc := "(I)I" } : Jvm.MethodName) prog_61_method_35_code (6 : Nat) (Option.some Jvm.ClassFile.FieldType.int)) ∈ lw_all := lw_g (lw_at lw_m33 68 rfl) rfl
theorem q8141 : (Jvm.Cond.methodLink "WasteHouseModel$PartGraphsModel" (149 : Nat) ({ cls := "WasteHouseModel$PartGraphsModel", name := "allOff", desc := "(I)J" } : Jvm.MethodName)) ∈ lw_all := lw_g (lw_at lw_m33 69 rfl) rfl
theorem q8142 : (Jvm.Cond.privateMethod ({ cls := "WasteHouseModel$PartGraphsModel", name := "allOff", desc := "(I)J" } : Jvm.MethodName)) ∈ lw_tbl := lw_at lw_m33 70 rfl
theorem q8143 : (Jvm.Cond.instanceMethod ({ cls := "WasteHouseModel$PartGraphsModel", name := "allOff", desc := "(I)J" } : Jvm.MethodName)) ∈ lw_all := lw_g (lw_at lw_m33 71 rfl) rfl
theorem q8144 : (Jvm.Cond.code ({ cls := "WasteHouseModel$PartGraphsModel", name := "allOff", desc := "(I)J" } : Jvm.MethodName) prog_61_method_33_code (6 : Nat) (Option.some Jvm.ClassFile.FieldType.long)) ∈ lw_all := lw_g (lw_at lw_m33 72 rfl) rfl
theorem q8145 : (Jvm.Cond.methodLink "WasteHouseModel$PartGraphsModel" (146 : Nat) ({ cls := "WasteHouseModel$PartGraphsModel", name := "isFree", desc := "(IJ)Z" } : Jvm.MethodName)) ∈ lw_all := lw_g (lw_at lw_m33 73 rfl) rfl
theorem q8146 : (Jvm.Cond.privateMethod ({ cls := "WasteHouseModel$PartGraphsModel", name := "isFree", desc := "(IJ)Z" } : Jvm.MethodName)) ∈ lw_tbl := lw_at lw_m33 74 rfl
theorem q8147 : (Jvm.Cond.instanceMethod ({ cls := "WasteHouseModel$PartGraphsModel", name := "isFree", desc := "(IJ)Z" } : Jvm.MethodName)) ∈ lw_all := lw_g (lw_at lw_m33 75 rfl) rfl
theorem q8148 : (Jvm.Cond.code ({ cls := "WasteHouseModel$PartGraphsModel", name := "isFree", desc := "(IJ)Z" } : Jvm.MethodName) prog_61_method_30_code (8 : Nat) (Option.some Jvm.ClassFile.FieldType.boolean)) ∈ lw_all := lw_g (lw_at lw_m33 76 rfl) rfl
theorem q8149 : (Jvm.Cond.methodLink "WasteHouseModel$PartGraphsModel" (61 : Nat) ({ cls := "WasteHouseModel$PartGraphsModel", name := "wayAt", desc := "(IIII)I" } : Jvm.MethodName)) ∈ lw_all := lw_g (lw_at lw_m33 77 rfl) rfl
theorem q8150 : (Jvm.Cond.static ({ cls := "WasteHouseModel$PartGraphsModel", name := "wayAt", desc := "(IIII)I" } : Jvm.MethodName)) ∈ lw_all := lw_g (lw_at lw_m33 78 rfl) rfl
theorem q8151 : (Jvm.Cond.code ({ cls := "WasteHouseModel$PartGraphsModel", name := "wayAt", desc := "(IIII)I" } : Jvm.MethodName) prog_61_method_6_code (4 : Nat) (Option.some Jvm.ClassFile.FieldType.int)) ∈ lw_all := lw_g (lw_at lw_m33 79 rfl) rfl
theorem q8152 : (Jvm.Cond.methodLink "WasteHouseModel$PartGraphsModel" (138 : Nat) ({ cls := "WasteHouseModel$PartGraphsModel", name := "isOff", desc := "(JI)Z" } : Jvm.MethodName)) ∈ lw_all := lw_g (lw_at lw_m33 80 rfl) rfl
theorem q8153 : (Jvm.Cond.static ({ cls := "WasteHouseModel$PartGraphsModel", name := "isOff", desc := "(JI)Z" } : Jvm.MethodName)) ∈ lw_all := lw_g (lw_at lw_m33 81 rfl) rfl
theorem q8154 : (Jvm.Cond.code ({ cls := "WasteHouseModel$PartGraphsModel", name := "isOff", desc := "(JI)Z" } : Jvm.MethodName) prog_61_method_28_code (3 : Nat) (Option.some Jvm.ClassFile.FieldType.boolean)) ∈ lw_all := lw_g (lw_at lw_m33 82 rfl) rfl
theorem q8155 : (Jvm.Cond.methodLink "WasteHouseModel$PartGraphsModel" (142 : Nat) ({ cls := "WasteHouseModel$PartGraphsModel", name := "isPlain", desc := "(IJ)Z" } : Jvm.MethodName)) ∈ lw_all := lw_g (lw_at lw_m33 83 rfl) rfl
theorem q8156 : (Jvm.Cond.privateMethod ({ cls := "WasteHouseModel$PartGraphsModel", name := "isPlain", desc := "(IJ)Z" } : Jvm.MethodName)) ∈ lw_tbl := lw_at lw_m33 84 rfl
theorem q8157 : (Jvm.Cond.instanceMethod ({ cls := "WasteHouseModel$PartGraphsModel", name := "isPlain", desc := "(IJ)Z" } : Jvm.MethodName)) ∈ lw_all := lw_g (lw_at lw_m33 85 rfl) rfl
theorem q8158 : (Jvm.Cond.code ({ cls := "WasteHouseModel$PartGraphsModel", name := "isPlain", desc := "(IJ)Z" } : Jvm.MethodName) prog_61_method_29_code (6 : Nat) (Option.some Jvm.ClassFile.FieldType.boolean)) ∈ lw_all := lw_g (lw_at lw_m33 86 rfl) rfl
theorem q8171 : (Jvm.Cond.instanceMethod ({ cls := "WasteHouseModel$PartGraphsModel", name := "before", desc := "(II)I" } : Jvm.MethodName)) ∈ lw_all := lw_g (lw_at lw_m33 99 rfl) rfl
theorem q8172 : (Jvm.Cond.selects "WasteHouseModel$PartGraphsModel" ({ cls := "WasteHouseModel$PartGraphsModel", name := "before", desc := "(II)I" } : Jvm.MethodName) ({ cls := "WasteHouseModel$PartGraphsModel", name := "before", desc := "(II)I" } : Jvm.MethodName)) ∈ lw_all := lw_g (lw_at lw_m33 100 rfl) rfl
theorem q8173 : (Jvm.Cond.code ({ cls := "WasteHouseModel$PartGraphsModel", name := "before", desc := "(II)I" } : Jvm.MethodName) prog_61_method_34_code (5 : Nat) (Option.some Jvm.ClassFile.FieldType.int)) ∈ lw_all := lw_g (lw_at lw_m33 101 rfl) rfl
theorem q8174 : (Jvm.Cond.methodLink "WasteHouseModel$PartGraphsModel" (57 : Nat) ({ cls := "WasteHouseModel$PartGraphsModel", name := "isPart", desc := "(II)Z" } : Jvm.MethodName)) ∈ lw_all := lw_g (lw_at lw_m33 102 rfl) rfl
theorem q8175 : (Jvm.Cond.privateMethod ({ cls := "WasteHouseModel$PartGraphsModel", name := "isPart", desc := "(II)Z" } : Jvm.MethodName)) ∈ lw_tbl := lw_at lw_m33 103 rfl
theorem q8176 : (Jvm.Cond.instanceMethod ({ cls := "WasteHouseModel$PartGraphsModel", name := "isPart", desc := "(II)Z" } : Jvm.MethodName)) ∈ lw_all := lw_g (lw_at lw_m33 104 rfl) rfl
theorem q8177 : (Jvm.Cond.code ({ cls := "WasteHouseModel$PartGraphsModel", name := "isPart", desc := "(II)Z" } : Jvm.MethodName) prog_61_method_5_code (3 : Nat) (Option.some Jvm.ClassFile.FieldType.boolean)) ∈ lw_all := lw_g (lw_at lw_m33 105 rfl) rfl
theorem q8987 : (Jvm.Cond.instanceMethod ({ cls := "WasteHouseModel$PartGraphsModel", name := "unit", desc := "(I)Z" } : Jvm.MethodName)) ∈ lw_all := lw_g (lw_at lw_m36 195 rfl) rfl
theorem q8988 : (Jvm.Cond.selects "WasteHouseModel$PartGraphsModel" ({ cls := "WasteHouseModel$PartGraphsModel", name := "unit", desc := "(I)Z" } : Jvm.MethodName) ({ cls := "WasteHouseModel$PartGraphsModel", name := "unit", desc := "(I)Z" } : Jvm.MethodName)) ∈ lw_all := lw_g (lw_at lw_m36 196 rfl) rfl
theorem q8989 : (Jvm.Cond.code ({ cls := "WasteHouseModel$PartGraphsModel", name := "unit", desc := "(I)Z" } : Jvm.MethodName) prog_61_method_11_code (2 : Nat) (Option.some Jvm.ClassFile.FieldType.boolean)) ∈ lw_all := lw_g (lw_at lw_m36 197 rfl) rfl
theorem q8991 : (Jvm.Cond.instanceMethod ({ cls := "WasteHouseModel$PartGraphsModel", name := "read", desc := "()I" } : Jvm.MethodName)) ∈ lw_all := lw_g (lw_at lw_m36 199 rfl) rfl
theorem q8992 : (Jvm.Cond.selects "WasteHouseModel$PartGraphsModel" ({ cls := "WasteHouseModel$PartGraphsModel", name := "read", desc := "()I" } : Jvm.MethodName) ({ cls := "WasteHouseModel$PartGraphsModel", name := "read", desc := "()I" } : Jvm.MethodName)) ∈ lw_all := lw_g (lw_at lw_m36 200 rfl) rfl
theorem q8993 : (Jvm.Cond.code ({ cls := "WasteHouseModel$PartGraphsModel", name := "read", desc := "()I" } : Jvm.MethodName) prog_61_method_19_code (2 : Nat) (Option.some Jvm.ClassFile.FieldType.int)) ∈ lw_all := lw_g (lw_at lw_m36 201 rfl) rfl
theorem q8994 : (Jvm.Cond.methodLink "WasteHouseModel$PartGraphsModel" (111 : Nat) ({ cls := "WasteHouseModel$PartGraphsModel", name := "wordBegin", desc := "(I)I" } : Jvm.MethodName)) ∈ lw_all := lw_g (lw_at lw_m36 202 rfl) rfl
theorem q8995 : (Jvm.Cond.privateMethod ({ cls := "WasteHouseModel$PartGraphsModel", name := "wordBegin", desc := "(I)I" } : Jvm.MethodName)) ∈ lw_tbl := lw_at lw_m36 203 rfl
theorem q8996 : (Jvm.Cond.instanceMethod ({ cls := "WasteHouseModel$PartGraphsModel", name := "wordBegin", desc := "(I)I" } : Jvm.MethodName)) ∈ lw_all := lw_g (lw_at lw_m36 204 rfl) rfl
theorem q8997 : (Jvm.Cond.code ({ cls := "WasteHouseModel$PartGraphsModel", name := "wordBegin", desc := "(I)I" } : Jvm.MethodName) prog_61_method_13_code (3 : Nat) (Option.some Jvm.ClassFile.FieldType.int)) ∈ lw_all := lw_g (lw_at lw_m36 205 rfl) rfl
theorem q8998 : (Jvm.Cond.methodLink "WasteHouseModel$PartGraphsModel" (72 : Nat) ({ cls := "WasteHouseModel$PartGraphsModel", name := "isGap", desc := "(I)Z" } : Jvm.MethodName)) ∈ lw_all := lw_g (lw_at lw_m36 206 rfl) rfl
theorem q8999 : (Jvm.Cond.privateMethod ({ cls := "WasteHouseModel$PartGraphsModel", name := "isGap", desc := "(I)Z" } : Jvm.MethodName)) ∈ lw_tbl := lw_at lw_m36 207 rfl
theorem q9000 : (Jvm.Cond.instanceMethod ({ cls := "WasteHouseModel$PartGraphsModel", name := "isGap", desc := "(I)Z" } : Jvm.MethodName)) ∈ lw_all := lw_g (lw_at lw_m36 208 rfl) rfl
theorem q9001 : (Jvm.Cond.code ({ cls := "WasteHouseModel$PartGraphsModel", name := "isGap", desc := "(I)Z" } : Jvm.MethodName) prog_61_method_12_code (2 : Nat) (Option.some Jvm.ClassFile.FieldType.boolean)) ∈ lw_all := lw_g (lw_at lw_m36 209 rfl) rfl
theorem q9002 : (Jvm.Cond.methodLink "WasteHouseModel$PartGraphsModel" (125 : Nat) ({ cls := "WasteHouseModel$PartGraphsModel", name := "readSentence", desc := "()Z" } : Jvm.MethodName)) ∈ lw_all := lw_g (lw_at lw_m36 210 rfl) rfl
theorem q9003 : (Jvm.Cond.privateMethod ({ cls := "WasteHouseModel$PartGraphsModel", name := "readSentence", desc := "()Z" } : Jvm.MethodName)) ∈ lw_tbl := lw_at lw_m36 211 rfl
theorem q9004 : (Jvm.Cond.instanceMethod ({ cls := "WasteHouseModel$PartGraphsModel", name := "readSentence", desc := "()Z" } : Jvm.MethodName)) ∈ lw_all := lw_g (lw_at lw_m36 212 rfl) rfl
theorem q9005 : (Jvm.Cond.code ({ cls := "WasteHouseModel$PartGraphsModel", name := "readSentence", desc := "()Z" } : Jvm.MethodName) prog_61_method_18_code (6 : Nat) (Option.some Jvm.ClassFile.FieldType.boolean)) ∈ lw_all := lw_g (lw_at lw_m36 213 rfl) rfl
theorem q9006 : (Jvm.Cond.methodLink "WasteHouseModel$PartGraphsModel" (95 : Nat) ({ cls := "WasteHouseModel$PartGraphsModel", name := "wordEnd", desc := "(I)I" } : Jvm.MethodName)) ∈ lw_all := lw_g (lw_at lw_m36 214 rfl) rfl
theorem q9007 : (Jvm.Cond.privateMethod ({ cls := "WasteHouseModel$PartGraphsModel", name := "wordEnd", desc := "(I)I" } : Jvm.MethodName)) ∈ lw_tbl := lw_at lw_m36 215 rfl
theorem q9008 : (Jvm.Cond.instanceMethod ({ cls := "WasteHouseModel$PartGraphsModel", name := "wordEnd", desc := "(I)I" } : Jvm.MethodName)) ∈ lw_all := lw_g (lw_at lw_m36 216 rfl) rfl
theorem q9009 : (Jvm.Cond.code ({ cls := "WasteHouseModel$PartGraphsModel", name := "wordEnd", desc := "(I)I" } : Jvm.MethodName) prog_61_method_14_code (3 : Nat) (Option.some Jvm.ClassFile.FieldType.int)) ∈ lw_all := lw_g (lw_at lw_m36 217 rfl) rfl
theorem q9010 : (Jvm.Cond.methodLink "WasteHouseModel$PartGraphsModel" (99 : Nat) ({ cls := "WasteHouseModel$PartGraphsModel", name := "wordOf", desc := "(II)J" } : Jvm.MethodName)) ∈ lw_all := lw_g (lw_at lw_m36 218 rfl) rfl
theorem q9011 : (Jvm.Cond.privateMethod ({ cls := "WasteHouseModel$PartGraphsModel", name := "wordOf", desc := "(II)J" } : Jvm.MethodName)) ∈ lw_tbl := lw_at lw_m36 219 rfl
theorem q9012 : (Jvm.Cond.instanceMethod ({ cls := "WasteHouseModel$PartGraphsModel", name := "wordOf", desc := "(II)J" } : Jvm.MethodName)) ∈ lw_all := lw_g (lw_at lw_m36 220 rfl) rfl
theorem q9013 : (Jvm.Cond.code ({ cls := "WasteHouseModel$PartGraphsModel", name := "wordOf", desc := "(II)J" } : Jvm.MethodName) prog_61_method_15_code (6 : Nat) (Option.some Jvm.ClassFile.FieldType.long)) ∈ lw_all := lw_g (lw_at lw_m36 221 rfl) rfl
theorem q9014 : (Jvm.Cond.constantLong "WasteHouseModel$PartGraphsModel" (76 : Nat) (256 : Int64)) ∈ lw_all := lw_g (lw_at lw_m36 222 rfl) rfl
theorem q9015 : (Jvm.Cond.methodLink "WasteHouseModel$PartGraphsModel" (103 : Nat) ({ cls := "WasteHouseModel$PartGraphsModel", name := "nameOf", desc := "(I)J" } : Jvm.MethodName)) ∈ lw_all := lw_g (lw_at lw_m36 223 rfl) rfl
theorem q9016 : (Jvm.Cond.static ({ cls := "WasteHouseModel$PartGraphsModel", name := "nameOf", desc := "(I)J" } : Jvm.MethodName)) ∈ lw_all := lw_g (lw_at lw_m36 224 rfl) rfl
theorem q9017 : (Jvm.Cond.code ({ cls := "WasteHouseModel$PartGraphsModel", name := "nameOf", desc := "(I)J" } : Jvm.MethodName) prog_61_method_17_code (1 : Nat) (Option.some Jvm.ClassFile.FieldType.long)) ∈ lw_all := lw_g (lw_at lw_m36 225 rfl) rfl
theorem q9018 : (Jvm.Cond.constantLong "WasteHouseModel$PartGraphsModel" (78 : Nat) (6180401780 : Int64)) ∈ lw_all := lw_g (lw_at lw_m36 226 rfl) rfl
theorem q9019 : (Jvm.Cond.constantLong "WasteHouseModel$PartGraphsModel" (80 : Nat) (1526583420274 : Int64)) ∈ lw_all := lw_g (lw_at lw_m36 227 rfl) rfl
theorem q9020 : (Jvm.Cond.constantLong "WasteHouseModel$PartGraphsModel" (82 : Nat) (24600953 : Int64)) ∈ lw_all := lw_g (lw_at lw_m36 228 rfl) rfl
theorem q9021 : (Jvm.Cond.constantLong "WasteHouseModel$PartGraphsModel" (84 : Nat) (394043711579502 : Int64)) ∈ lw_all := lw_g (lw_at lw_m36 229 rfl) rfl
theorem q9022 : (Jvm.Cond.constantLong "WasteHouseModel$PartGraphsModel" (86 : Nat) (396242851033700 : Int64)) ∈ lw_all := lw_g (lw_at lw_m36 230 rfl) rfl
theorem q9023 : (Jvm.Cond.constantLong "WasteHouseModel$PartGraphsModel" (88 : Nat) (404003756797806 : Int64)) ∈ lw_all := lw_g (lw_at lw_m36 231 rfl) rfl
theorem q9024 : (Jvm.Cond.constantLong "WasteHouseModel$PartGraphsModel" (90 : Nat) (391844586415973 : Int64)) ∈ lw_all := lw_g (lw_at lw_m36 232 rfl) rfl
theorem q9025 : (Jvm.Cond.methodLink "WasteHouseModel$PartGraphsModel" (107 : Nat) ({ cls := "WasteHouseModel$PartGraphsModel", name := "canBe", desc := "(IIIIII)Z" } : Jvm.MethodName)) ∈ lw_all := lw_g (lw_at lw_m36 233 rfl) rfl
theorem q9026 : (Jvm.Cond.privateMethod ({ cls := "WasteHouseModel$PartGraphsModel", name := "canBe", desc := "(IIIIII)Z" } : Jvm.MethodName)) ∈ lw_tbl := lw_at lw_m36 234 rfl
theorem q9027 : (Jvm.Cond.instanceMethod ({ cls := "WasteHouseModel$PartGraphsModel", name := "canBe", desc := "(IIIIII)Z" } : Jvm.MethodName)) ∈ lw_all := lw_g (lw_at lw_m36 235 rfl) rfl
theorem q9028 : (Jvm.Cond.code ({ cls := "WasteHouseModel$PartGraphsModel", name := "canBe", desc := "(IIIIII)Z" } : Jvm.MethodName) prog_61_method_10_code (10 : Nat) (Option.some Jvm.ClassFile.FieldType.boolean)) ∈ lw_all := lw_g (lw_at lw_m36 236 rfl) rfl
theorem q9029 : (Jvm.Cond.methodLink "WasteHouseModel$PartGraphsModel" (65 : Nat) ({ cls := "WasteHouseModel$PartGraphsModel", name := "isAllowed", desc := "(IIIII)Z" } : Jvm.MethodName)) ∈ lw_all := lw_g (lw_at lw_m36 237 rfl) rfl
theorem q9030 : (Jvm.Cond.privateMethod ({ cls := "WasteHouseModel$PartGraphsModel", name := "isAllowed", desc := "(IIIII)Z" } : Jvm.MethodName)) ∈ lw_tbl := lw_at lw_m36 238 rfl
theorem q9031 : (Jvm.Cond.instanceMethod ({ cls := "WasteHouseModel$PartGraphsModel", name := "isAllowed", desc := "(IIIII)Z" } : Jvm.MethodName)) ∈ lw_all := lw_g (lw_at lw_m36 239 rfl) rfl
theorem q9032 : (Jvm.Cond.code ({ cls := "WasteHouseModel$PartGraphsModel", name := "isAllowed", desc := "(IIIII)Z" } : Jvm.MethodName) prog_61_method_7_code (6 : Nat) (Option.some Jvm.ClassFile.FieldType.boolean)) ∈ lw_all := lw_g (lw_at lw_m37 0 rfl) rfl
theorem q9033 : (Jvm.Cond.constant "WasteHouseModel$PartGraphsModel" (56 : Nat) (1000000 : Int32)) ∈ lw_all := lw_g (lw_at lw_m37 1 rfl) rfl
theorem q9034 : (Jvm.Cond.methodLink "WasteHouseModel$PartGraphsModel" (114 : Nat) ({ cls := "WasteHouseModel$PartGraphsModel", name := "numbersOf", desc := "(I)I" } : Jvm.MethodName)) ∈ lw_all := lw_g (lw_at lw_m37 2 rfl) rfl
theorem q9035 : (Jvm.Cond.static ({ cls := "WasteHouseModel$PartGraphsModel", name := "numbersOf", desc := "(I)I" } : Jvm.MethodName)) ∈ lw_all := lw_g (lw_at lw_m37 3 rfl) rfl
theorem q9036 : (Jvm.Cond.code ({ cls := "WasteHouseModel$PartGraphsModel", name := "numbersOf", desc := "(I)I" } : Jvm.MethodName) prog_61_method_9_code (1 : Nat) (Option.some Jvm.ClassFile.FieldType.int)) ∈ lw_all := lw_g (lw_at lw_m37 4 rfl) rfl
theorem q9037 : (Jvm.Cond.methodLink "WasteHouseModel$PartGraphsModel" (117 : Nat) ({ cls := "WasteHouseModel$PartGraphsModel", name := "numberOf", desc := "(II)I" } : Jvm.MethodName)) ∈ lw_all := lw_g (lw_at lw_m37 5 rfl) rfl
theorem q9038 : (Jvm.Cond.privateMethod ({ cls := "WasteHouseModel$PartGraphsModel", name := "numberOf", desc := "(II)I" } : Jvm.MethodName)) ∈ lw_tbl := lw_at lw_m37 6 rfl
theorem q9039 : (Jvm.Cond.instanceMethod ({ cls := "WasteHouseModel$PartGraphsModel", name := "numberOf", desc := "(II)I" } : Jvm.MethodName)) ∈ lw_all := lw_g (lw_at lw_m37 7 rfl) rfl
theorem q9040 : (Jvm.Cond.code ({ cls := "WasteHouseModel$PartGraphsModel", name := "numberOf", desc := "(II)I" } : Jvm.MethodName) prog_61_method_16_code (6 : Nat) (Option.some Jvm.ClassFile.FieldType.int)) ∈ lw_all := lw_g (lw_at lw_m37 8 rfl) rfl
theorem q9041 : (Jvm.Cond.methodLink "WasteHouseModel$PartGraphsModel" (121 : Nat) ({ cls := "WasteHouseModel$PartGraphsModel", name := "make", desc := "(IIIII)V" } : Jvm.MethodName)) ∈ lw_all := lw_g (lw_at lw_m37 9 rfl) rfl
theorem q9042 : (Jvm.Cond.privateMethod ({ cls := "WasteHouseModel$PartGraphsModel", name := "make", desc := "(IIIII)V" } : Jvm.MethodName)) ∈ lw_tbl := lw_at lw_m37 10 rfl
theorem q9043 : (Jvm.Cond.instanceMethod ({ cls := "WasteHouseModel$PartGraphsModel", name := "make", desc := "(IIIII)V" } : Jvm.MethodName)) ∈ lw_all := lw_g (lw_at lw_m37 11 rfl) rfl
theorem q9044 : (Jvm.Cond.code ({ cls := "WasteHouseModel$PartGraphsModel", name := "make", desc := "(IIIII)V" } : Jvm.MethodName) prog_61_method_8_code (6 : Nat) (Option.none : Option Jvm.ClassFile.FieldType)) ∈ lw_all := lw_g (lw_at lw_m37 12 rfl) rfl
theorem q9045 : (Jvm.Cond.methodLink "WasteHouseModel$PartGraphsModel" (129 : Nat) ({ cls := "WasteHouseModel$PartGraphsModel", name := "take", desc := "()V" } : Jvm.MethodName)) ∈ lw_all := lw_g (lw_at lw_m37 13 rfl) rfl
theorem q9046 : (Jvm.Cond.privateMethod ({ cls := "WasteHouseModel$PartGraphsModel", name := "take", desc := "()V" } : Jvm.MethodName)) ∈ lw_tbl := lw_at lw_m37 14 rfl
theorem q9047 : (Jvm.Cond.instanceMethod ({ cls := "WasteHouseModel$PartGraphsModel", name := "take", desc := "()V" } : Jvm.MethodName)) ∈ lw_all := lw_g (lw_at lw_m37 15 rfl) rfl
theorem q9048 : (Jvm.Cond.code ({ cls := "WasteHouseModel$PartGraphsModel", name := "take", desc := "()V" } : Jvm.MethodName) prog_61_method_4_code (2 : Nat) (Option.none : Option Jvm.ClassFile.FieldType)) ∈ lw_all := lw_g (lw_at lw_m37 16 rfl) rfl
theorem q9050 : (Jvm.Cond.instanceMethod ({ cls := "WasteHouseModel$PartGraphsModel", name := "part", desc := "(IJ)I" } : Jvm.MethodName)) ∈ lw_all := lw_g (lw_at lw_m37 18 rfl) rfl
theorem q9051 : (Jvm.Cond.selects "WasteHouseModel$PartGraphsModel" ({ cls := "WasteHouseModel$PartGraphsModel", name := "part", desc := "(IJ)I" } : Jvm.MethodName) ({ cls := "WasteHouseModel$PartGraphsModel", name := "part", desc := "(IJ)I" } : Jvm.MethodName)) ∈ lw_all := lw_g (lw_at lw_m37 19 rfl) rfl
theorem q9052 : (Jvm.Cond.code ({ cls := "WasteHouseModel$PartGraphsModel", name := "part", desc := "(IJ)I" } : Jvm.MethodName) prog_61_method_20_code (4 : Nat) (Option.some Jvm.ClassFile.FieldType.int)) ∈ lw_all := lw_g (lw_at lw_m37 20 rfl) rfl
theorem q9053 : (Jvm.Cond.constantLong "WasteHouseModel$PartGraphsModel" (132 : Nat) (1000000 : Int64)) ∈ lw_all := lw_g (lw_at lw_m37 21 rfl) rfl
theorem q9056 : (Jvm.Cond.instanceMethod ({ cls := "WasteHouseModel$PartGraphsModel", name := "fasten", desc := "(III)I" } : Jvm.MethodName)) ∈ lw_all := lw_g (lw_at lw_m37 24 rfl) rfl
theorem q9057 : (Jvm.Cond.selects "WasteHouseModel$PartGraphsModel" ({ cls := "WasteHouseModel$PartGraphsModel", name := "fasten", desc := "(III)I" } : Jvm.MethodName) ({ cls := "WasteHouseModel$PartGraphsModel", name := "fasten", desc := "(III)I" } : Jvm.MethodName)) ∈ lw_all := lw_g (lw_at lw_m37 25 rfl) rfl
theorem q9058 : (Jvm.Cond.code ({ cls := "WasteHouseModel$PartGraphsModel", name := "fasten", desc := "(III)I" } : Jvm.MethodName) prog_61_method_21_code (4 : Nat) (Option.some Jvm.ClassFile.FieldType.int)) ∈ lw_all := lw_g (lw_at lw_m37 26 rfl) rfl
theorem q9061 : (Jvm.Cond.instanceMethod ({ cls := "WasteHouseModel$PartGraphsModel", name := "cover", desc := "(II)Z" } : Jvm.MethodName)) ∈ lw_all := lw_g (lw_at lw_m37 29 rfl) rfl
theorem q9062 : (Jvm.Cond.selects "WasteHouseModel$PartGraphsModel" ({ cls := "WasteHouseModel$PartGraphsModel", name := "cover", desc := "(II)Z" } : Jvm.MethodName) ({ cls := "WasteHouseModel$PartGraphsModel", name := "cover", desc := "(II)Z" } : Jvm.MethodName)) ∈ lw_all := lw_g (lw_at lw_m37 30 rfl) rfl
theorem q9063 : (Jvm.Cond.code ({ cls := "WasteHouseModel$PartGraphsModel", name := "cover", desc := "(II)Z" } : Jvm.MethodName) prog_61_method_23_code (3 : Nat) (Option.some Jvm.ClassFile.FieldType.boolean)) ∈ lw_all := lw_g (lw_at lw_m37 31 rfl) rfl
theorem q9064 : (Jvm.Cond.methodLink "WasteHouseModel$PartGraphsModel" (134 : Nat) ({ cls := "WasteHouseModel$PartGraphsModel", name := "tell", desc := "(IIII)Z" } : Jvm.MethodName)) ∈ lw_all := lw_g (lw_at lw_m37 32 rfl) rfl
theorem q9065 : (Jvm.Cond.privateMethod ({ cls := "WasteHouseModel$PartGraphsModel", name := "tell", desc := "(IIII)Z" } : Jvm.MethodName)) ∈ lw_tbl := lw_at lw_m37 33 rfl
theorem q9066 : (Jvm.Cond.instanceMethod ({ cls := "WasteHouseModel$PartGraphsModel", name := "tell", desc := "(IIII)Z" } : Jvm.MethodName)) ∈ lw_all := lw_g (lw_at lw_m37 34 rfl) rfl
theorem q9067 : (Jvm.Cond.code ({ cls := "WasteHouseModel$PartGraphsModel", name := "tell", desc := "(IIII)Z" } : Jvm.MethodName) prog_61_method_22_code (6 : Nat) (Option.some Jvm.ClassFile.FieldType.boolean)) ∈ lw_all := lw_g (lw_at lw_m37 35 rfl) rfl
theorem q9069 : (Jvm.Cond.instanceMethod ({ cls := "WasteHouseModel$PartGraphsModel", name := "way", desc := "(III)Z" } : Jvm.MethodName)) ∈ lw_all := lw_g (lw_at lw_m37 37 rfl) rfl
theorem q9070 : (Jvm.Cond.selects "WasteHouseModel$PartGraphsModel" ({ cls := "WasteHouseModel$PartGraphsModel", name := "way", desc := "(III)Z" } : Jvm.MethodName) ({ cls := "WasteHouseModel$PartGraphsModel", name := "way", desc := "(III)Z" } : Jvm.MethodName)) ∈ lw_all := lw_g (lw_at lw_m37 38 rfl) rfl
theorem q9071 : (Jvm.Cond.code ({ cls := "WasteHouseModel$PartGraphsModel", name := "way", desc := "(III)Z" } : Jvm.MethodName) prog_61_method_24_code (4 : Nat) (Option.some Jvm.ClassFile.FieldType.boolean)) ∈ lw_all := lw_g (lw_at lw_m37 39 rfl) rfl
theorem q9076 : (Jvm.Cond.instanceMethod ({ cls := "WasteHouseModel$PartGraphsModel", name := "option", desc := "(II)Z" } : Jvm.MethodName)) ∈ lw_all := lw_g (lw_at lw_m37 44 rfl) rfl
theorem q9077 : (Jvm.Cond.selects "WasteHouseModel$PartGraphsModel" ({ cls := "WasteHouseModel$PartGraphsModel", name := "option", desc := "(II)Z" } : Jvm.MethodName) ({ cls := "WasteHouseModel$PartGraphsModel", name := "option", desc := "(II)Z" } : Jvm.MethodName)) ∈ lw_all := lw_g (lw_at lw_m37 45 rfl) rfl
theorem q9078 : (Jvm.Cond.code ({ cls := "WasteHouseModel$PartGraphsModel", name := "option", desc := "(II)Z" } : Jvm.MethodName) prog_61_method_25_code (3 : Nat) (Option.some Jvm.ClassFile.FieldType.boolean)) ∈ lw_all := lw_g (lw_at lw_m37 46 rfl) rfl
theorem q9081 : (Jvm.Cond.instanceMethod ({ cls := "WasteHouseModel$PartGraphsModel", name := "family", desc := "(II)I" } : Jvm.MethodName)) ∈ lw_all := lw_g (lw_at lw_m37 49 rfl) rfl
theorem q9082 : (Jvm.Cond.selects "WasteHouseModel$PartGraphsModel" ({ cls := "WasteHouseModel$PartGraphsModel", name := "family", desc := "(II)I" } : Jvm.MethodName) ({ cls := "WasteHouseModel$PartGraphsModel", name := "family", desc := "(II)I" } : Jvm.MethodName)) ∈ lw_all := lw_g (lw_at lw_m37 50 rfl) rfl
theorem q9083 : (Jvm.Cond.code ({ cls := "WasteHouseModel$PartGraphsModel", name := "family", desc := "(II)I" } : Jvm.MethodName) prog_61_method_38_code (6 : Nat) (Option.some Jvm.ClassFile.FieldType.int)) ∈ lw_all := lw_g (lw_at lw_m37 51 rfl) rfl
theorem q9084 : (Jvm.Cond.methodLink "WasteHouseModel$PartGraphsModel" (152 : Nat) ({ cls := "WasteHouseModel$PartGraphsModel", name := "sizeOf", desc := "(I)I" } : Jvm.MethodName)) ∈ lw_all := lw_g (lw_at lw_m37 52 rfl) rfl
theorem q9085 : (Jvm.Cond.privateMethod ({ cls := "WasteHouseModel$PartGraphsModel", name := "sizeOf", desc := "(I)I" } : Jvm.MethodName)) ∈ lw_tbl := lw_at lw_m37 53 rfl
theorem q9086 : (Jvm.Cond.instanceMethod ({ cls := "WasteHouseModel$PartGraphsModel", name := "sizeOf", desc := "(I)I" } : Jvm.MethodName)) ∈ lw_all := lw_g (lw_at lw_m37 54 rfl) rfl
theorem q9087 : (Jvm.Cond.code ({ cls := "WasteHouseModel$PartGraphsModel", name := "sizeOf", desc := "(I)I" } : Jvm.MethodName) prog_61_method_36_code (4 : Nat) (Option.some Jvm.ClassFile.FieldType.int)) ∈ lw_all := lw_g (lw_at lw_m37 55 rfl) rfl
theorem q9088 : (Jvm.Cond.methodLink "WasteHouseModel$PartGraphsModel" (155 : Nat) ({ cls := "WasteHouseModel$PartGraphsModel", name := "isIn", desc := "(II)Z" } : Jvm.MethodName)) ∈ lw_all := lw_g (lw_at lw_m37 56 rfl) rfl
theorem q9089 : (Jvm.Cond.privateMethod ({ cls := "WasteHouseModel$PartGraphsModel", name := "isIn", desc := "(II)Z" } : Jvm.MethodName)) ∈ lw_tbl := lw_at lw_m37 57 rfl
theorem q9090 : (Jvm.Cond.instanceMethod ({ cls := "WasteHouseModel$PartGraphsModel", name := "isIn", desc := "(II)Z" } : Jvm.MethodName)) ∈ lw_all := lw_g (lw_at lw_m37 58 rfl) rfl
theorem q9091 : (Jvm.Cond.code ({ cls := "WasteHouseModel$PartGraphsModel", name := "isIn", desc := "(II)Z" } : Jvm.MethodName) prog_61_method_39_code (5 : Nat) (Option.some Jvm.ClassFile.FieldType.boolean)) ∈ lw_all := lw_g (lw_at lw_m37 59 rfl) rfl
theorem q9092 : (Jvm.Cond.methodLink "WasteHouseModel$PartGraphsModel" (158 : Nat) ({ cls := "WasteHouseModel$PartGraphsModel", name := "orderOf", desc := "(I)I" } : Jvm.MethodName)) ∈ lw_all := lw_g (lw_at lw_m37 60 rfl) rfl
theorem q9093 : (Jvm.Cond.privateMethod ({ cls := "WasteHouseModel$PartGraphsModel", name := "orderOf", desc := "(I)I" } : Jvm.MethodName)) ∈ lw_tbl := lw_at lw_m37 61 rfl
theorem q9094 : (Jvm.Cond.instanceMethod ({ cls := "WasteHouseModel$PartGraphsModel", name := "orderOf", desc := "(I)I" } : Jvm.MethodName)) ∈ lw_all := lw_g (lw_at lw_m37 62 rfl) rfl
theorem q9095 : (Jvm.Cond.code ({ cls := "WasteHouseModel$PartGraphsModel", name := "orderOf", desc := "(I)I" } : Jvm.MethodName) prog_61_method_37_code (4 : Nat) (Option.some Jvm.ClassFile.FieldType.int)) ∈ lw_all := lw_g (lw_at lw_m37 63 rfl) rfl
theorem q9098 : (Jvm.Cond.instanceMethod ({ cls := "WasteHouseModel$PartGraphsModel", name := "holds", desc := "(III)Z" } : Jvm.MethodName)) ∈ lw_all := lw_g (lw_at lw_m37 66 rfl) rfl
theorem q9099 : (Jvm.Cond.selects "WasteHouseModel$PartGraphsModel" ({ cls := "WasteHouseModel$PartGraphsModel", name := "holds", desc := "(III)Z" } : Jvm.MethodName) ({ cls := "WasteHouseModel$PartGraphsModel", name := "holds", desc := "(III)Z" } : Jvm.MethodName)) ∈ lw_all := lw_g (lw_at lw_m37 67 rfl) rfl
theorem q9100 : (Jvm.Cond.code ({ cls := "WasteHouseModel$PartGraphsModel", name := "holds", desc := "(III)Z" } : Jvm.MethodName) prog_61_method_41_code (4 : Nat) (Option.some Jvm.ClassFile.FieldType.boolean)) ∈ lw_all := lw_g (lw_at lw_m37 68 rfl) rfl
theorem q9101 : (Jvm.Cond.methodLink "WasteHouseModel$PartGraphsModel" (161 : Nat) ({ cls := "WasteHouseModel$PartGraphsModel", name := "pieceOf", desc := "(IJ)J" } : Jvm.MethodName)) ∈ lw_all := lw_g (lw_at lw_m37 69 rfl) rfl
theorem q9102 : (Jvm.Cond.privateMethod ({ cls := "WasteHouseModel$PartGraphsModel", name := "pieceOf", desc := "(IJ)J" } : Jvm.MethodName)) ∈ lw_tbl := lw_at lw_m37 70 rfl
theorem q9103 : (Jvm.Cond.instanceMethod ({ cls := "WasteHouseModel$PartGraphsModel", name := "pieceOf", desc := "(IJ)J" } : Jvm.MethodName)) ∈ lw_all := lw_g (lw_at lw_m37 71 rfl) rfl
theorem q9104 : (Jvm.Cond.code ({ cls := "WasteHouseModel$PartGraphsModel", name := "pieceOf", desc := "(IJ)J" } : Jvm.MethodName) prog_61_method_40_code (11 : Nat) (Option.some Jvm.ClassFile.FieldType.long)) ∈ lw_all := lw_g (lw_at lw_m37 72 rfl) rfl
theorem q9107 : (Jvm.Cond.instanceMethod ({ cls := "WasteHouseModel$PartGraphsModel", name := "alike", desc := "(II)I" } : Jvm.MethodName)) ∈ lw_all := lw_g (lw_at lw_m37 75 rfl) rfl
theorem q9108 : (Jvm.Cond.selects "WasteHouseModel$PartGraphsModel" ({ cls := "WasteHouseModel$PartGraphsModel", name := "alike", desc := "(II)I" } : Jvm.MethodName) ({ cls := "WasteHouseModel$PartGraphsModel", name := "alike", desc := "(II)I" } : Jvm.MethodName)) ∈ lw_all := lw_g (lw_at lw_m37 76 rfl) rfl
theorem q9109 : (Jvm.Cond.code ({ cls := "WasteHouseModel$PartGraphsModel", name := "alike", desc := "(II)I" } : Jvm.MethodName) prog_61_method_44_code (7 : Nat) (Option.some Jvm.ClassFile.FieldType.int)) ∈ lw_all := lw_g (lw_at lw_m37 77 rfl) rfl
theorem q9112 : (Jvm.Cond.instanceMethod ({ cls := "WasteHouseModel$PartGraphsModel", name := "weight", desc := "(I)J" } : Jvm.MethodName)) ∈ lw_all := lw_g (lw_at lw_m37 80 rfl) rfl
theorem q9113 : (Jvm.Cond.selects "WasteHouseModel$PartGraphsModel" ({ cls := "WasteHouseModel$PartGraphsModel", name := "weight", desc := "(I)J" } : Jvm.MethodName) ({ cls := "WasteHouseModel$PartGraphsModel", name := "weight", desc := "(I)J" } : Jvm.MethodName)) ∈ lw_all := lw_g (lw_at lw_m37 81 rfl) rfl
theorem q9114 : (Jvm.Cond.code ({ cls := "WasteHouseModel$PartGraphsModel", name := "weight", desc := "(I)J" } : Jvm.MethodName) prog_61_method_42_code (5 : Nat) (Option.some Jvm.ClassFile.FieldType.long)) ∈ lw_all := lw_g (lw_at lw_m37 82 rfl) rfl
theorem q9117 : (Jvm.Cond.instanceMethod ({ cls := "WasteHouseModel$PartGraphsModel", name := "hazard", desc := "(II)Z" } : Jvm.MethodName)) ∈ lw_all := lw_g (lw_at lw_m37 85 rfl) rfl
theorem q9118 : (Jvm.Cond.selects "WasteHouseModel$PartGraphsModel" ({ cls := "WasteHouseModel$PartGraphsModel", name := "hazard", desc := "(II)Z" } : Jvm.MethodName) ({ cls := "WasteHouseModel$PartGraphsModel", name := "hazard", desc := "(II)Z" } : Jvm.MethodName)) ∈ lw_all := lw_g (lw_at lw_m37 86 rfl) rfl
theorem q9119 : (Jvm.Cond.code ({ cls := "WasteHouseModel$PartGraphsModel", name := "hazard", desc := "(II)Z" } : Jvm.MethodName) prog_61_method_26_code (3 : Nat) (Option.some Jvm.ClassFile.FieldType.boolean)) ∈ lw_all := lw_g (lw_at lw_m37 87 rfl) rfl
theorem q9122 : (Jvm.Cond.instanceMethod ({ cls := "WasteHouseModel$PartGraphsModel", name := "damage", desc := "(II)I" } : Jvm.MethodName)) ∈ lw_all := lw_g (lw_at lw_m37 90 rfl) rfl
theorem q9123 : (Jvm.Cond.selects "WasteHouseModel$PartGraphsModel" ({ cls := "WasteHouseModel$PartGraphsModel", name := "damage", desc := "(II)I" } : Jvm.MethodName) ({ cls := "WasteHouseModel$PartGraphsModel", name := "damage", desc := "(II)I" } : Jvm.MethodName)) ∈ lw_all := lw_g (lw_at lw_m37 91 rfl) rfl
theorem q9124 : (Jvm.Cond.code ({ cls := "WasteHouseModel$PartGraphsModel", name := "damage", desc := "(II)I" } : Jvm.MethodName) prog_61_method_27_code (4 : Nat) (Option.some Jvm.ClassFile.FieldType.int)) ∈ lw_all := lw_g (lw_at lw_m37 92 rfl) rfl
theorem q9127 : (Jvm.Cond.instanceMethod ({ cls := "WasteHouseModel$PartGraphsModel", name := "free", desc := "(IJ)Z" } : Jvm.MethodName)) ∈ lw_all := lw_g (lw_at lw_m37 95 rfl) rfl
theorem q9128 : (Jvm.Cond.selects "WasteHouseModel$PartGraphsModel" ({ cls := "WasteHouseModel$PartGraphsModel", name := "free", desc := "(IJ)Z" } : Jvm.MethodName) ({ cls := "WasteHouseModel$PartGraphsModel", name := "free", desc := "(IJ)Z" } : Jvm.MethodName)) ∈ lw_all := lw_g (lw_at lw_m37 96 rfl) rfl
theorem q9129 : (Jvm.Cond.code ({ cls := "WasteHouseModel$PartGraphsModel", name := "free", desc := "(IJ)Z" } : Jvm.MethodName) prog_61_method_31_code (4 : Nat) (Option.some Jvm.ClassFile.FieldType.boolean)) ∈ lw_all := lw_g (lw_at lw_m37 97 rfl) rfl
theorem q9132 : (Jvm.Cond.instanceMethod ({ cls := "WasteHouseModel$PartGraphsModel", name := "plain", desc := "(IJ)Z" } : Jvm.MethodName)) ∈ lw_all := lw_g (lw_at lw_m37 100 rfl) rfl
theorem q9133 : (Jvm.Cond.selects "WasteHouseModel$PartGraphsModel" ({ cls := "WasteHouseModel$PartGraphsModel", name := "plain", desc := "(IJ)Z" } : Jvm.MethodName) ({ cls := "WasteHouseModel$PartGraphsModel", name := "plain", desc := "(IJ)Z" } : Jvm.MethodName)) ∈ lw_all := lw_g (lw_at lw_m37 101 rfl) rfl
theorem q9134 : (Jvm.Cond.code ({ cls := "WasteHouseModel$PartGraphsModel", name := "plain", desc := "(IJ)Z" } : Jvm.MethodName) prog_61_method_32_code (4 : Nat) (Option.some Jvm.ClassFile.FieldType.boolean)) ∈ lw_all := lw_g (lw_at lw_m37 102 rfl) rfl
theorem q9136 : (Jvm.Cond.instanceMethod ({ cls := "WasteHouseModel$PartGraphsModel", name := "write", desc := "(I)I" } : Jvm.MethodName)) ∈ lw_all := lw_g (lw_at lw_m37 104 rfl) rfl
theorem q9137 : (Jvm.Cond.selects "WasteHouseModel$PartGraphsModel" ({ cls := "WasteHouseModel$PartGraphsModel", name := "write", desc := "(I)I" } : Jvm.MethodName) ({ cls := "WasteHouseModel$PartGraphsModel", name := "write", desc := "(I)I" } : Jvm.MethodName)) ∈ lw_all := lw_g (lw_at lw_m37 105 rfl) rfl
theorem q9138 : (Jvm.Cond.code ({ cls := "WasteHouseModel$PartGraphsModel", name := "write", desc := "(I)I" } : Jvm.MethodName) prog_61_method_50_code (3 : Nat) (Option.some Jvm.ClassFile.FieldType.int)) ∈ lw_all := lw_g (lw_at lw_m37 106 rfl) rfl
theorem q9139 : (Jvm.Cond.methodLink "WasteHouseModel$PartGraphsModel" (185 : Nat) ({ cls := "WasteHouseModel$PartGraphsModel", name := "putTwo", desc := "(III)V" } : Jvm.MethodName)) ∈ lw_all := lw_g (lw_at lw_m37 107 rfl) rfl
theorem q9140 : (Jvm.Cond.privateMethod ({ cls := "WasteHouseModel$PartGraphsModel", name := "putTwo", desc := "(III)V" } : Jvm.MethodName)) ∈ lw_tbl := lw_at lw_m37 108 rfl
theorem q9141 : (Jvm.Cond.instanceMethod ({ cls := "WasteHouseModel$PartGraphsModel", name := "putTwo", desc := "(III)V" } : Jvm.MethodName)) ∈ lw_all := lw_g (lw_at lw_m37 109 rfl) rfl
theorem q9142 : (Jvm.Cond.code ({ cls := "WasteHouseModel$PartGraphsModel", name := "putTwo", desc := "(III)V" } : Jvm.MethodName) prog_61_method_48_code (4 : Nat) (Option.none : Option Jvm.ClassFile.FieldType)) ∈ lw_all := lw_g (lw_at lw_m37 110 rfl) rfl
theorem q9143 : (Jvm.Cond.methodLink "WasteHouseModel$PartGraphsModel" (179 : Nat) ({ cls := "WasteHouseModel$PartGraphsModel", name := "putWord", desc := "(I)V" } : Jvm.MethodName)) ∈ lw_all := lw_g (lw_at lw_m37 111 rfl) rfl
theorem q9144 : (Jvm.Cond.privateMethod ({ cls := "WasteHouseModel$PartGraphsModel", name := "putWord", desc := "(I)V" } : Jvm.MethodName)) ∈ lw_tbl := lw_at lw_m37 112 rfl
theorem q9145 : (Jvm.Cond.instanceMethod ({ cls := "WasteHouseModel$PartGraphsModel", name := "putWord", desc := "(I)V" } : Jvm.MethodName)) ∈ lw_all := lw_g (lw_at lw_m37 113 rfl) rfl
theorem q9146 : (Jvm.Cond.code ({ cls := "WasteHouseModel$PartGraphsModel", name := "putWord", desc := "(I)V" } : Jvm.MethodName) prog_61_method_46_code (7 : Nat) (Option.none : Option Jvm.ClassFile.FieldType)) ∈ lw_all := lw_g (lw_at lw_m37 114 rfl) rfl
theorem q9147 : (Jvm.Cond.constantLong "WasteHouseModel$PartGraphsModel" (174 : Nat) (255 : Int64)) ∈ lw_all := lw_g (lw_at lw_m37 115 rfl) rfl
theorem q9148 : (Jvm.Cond.methodLink "WasteHouseModel$PartGraphsModel" (176 : Nat) ({ cls := "WasteHouseModel$PartGraphsModel", name := "put", desc := "(I)V" } : Jvm.MethodName)) ∈ lw_all := lw_g (lw_at lw_m37 116 rfl) rfl
theorem q9149 : (Jvm.Cond.privateMethod ({ cls := "WasteHouseModel$PartGraphsModel", name := "put", desc := "(I)V" } : Jvm.MethodName)) ∈ lw_tbl := lw_at lw_m37 117 rfl
theorem q9150 : (Jvm.Cond.instanceMethod ({ cls := "WasteHouseModel$PartGraphsModel", name := "put", desc := "(I)V" } : Jvm.MethodName)) ∈ lw_all := lw_g (lw_at lw_m37 118 rfl) rfl
theorem q9151 : (Jvm.Cond.code ({ cls := "WasteHouseModel$PartGraphsModel", name := "put", desc := "(I)V" } : Jvm.MethodName) prog_61_method_45_code (2 : Nat) (Option.none : Option Jvm.ClassFile.FieldType)) ∈ lw_all := lw_g (lw_at lw_m37 119 rfl) rfl
theorem q9152 : (Jvm.Cond.methodLink "WasteHouseModel$PartGraphsModel" (182 : Nat) ({ cls := "WasteHouseModel$PartGraphsModel", name := "putNumber", desc := "(I)V" } : Jvm.MethodName)) ∈ lw_all := lw_g (lw_at lw_m37 120 rfl) rfl
theorem q9153 : (Jvm.Cond.privateMethod ({ cls := "WasteHouseModel$PartGraphsModel", name := "putNumber", desc := "(I)V" } : Jvm.MethodName)) ∈ lw_tbl := lw_at lw_m37 121 rfl
theorem q9154 : (Jvm.Cond.instanceMethod ({ cls := "WasteHouseModel$PartGraphsModel", name := "putNumber", desc := "(I)V" } : Jvm.MethodName)) ∈ lw_all := lw_g (lw_at lw_m37 122 rfl) rfl
theorem q9155 : (Jvm.Cond.code ({ cls := "WasteHouseModel$PartGraphsModel", name := "putNumber", desc := "(I)V" } : Jvm.MethodName) prog_61_method_47_code (3 : Nat) (Option.none : Option Jvm.ClassFile.FieldType)) ∈ lw_all := lw_g (lw_at lw_m37 123 rfl) rfl
theorem q9156 : (Jvm.Cond.methodLink "WasteHouseModel$PartGraphsModel" (189 : Nat) ({ cls := "WasteHouseModel$PartGraphsModel", name := "putPart", desc := "(I)V" } : Jvm.MethodName)) ∈ lw_all := lw_g (lw_at lw_m37 124 rfl) rfl
theorem q9157 : (Jvm.Cond.privateMethod ({ cls := "WasteHouseModel$PartGraphsModel", name := "putPart", desc := "(I)V" } : Jvm.MethodName)) ∈ lw_tbl := lw_at lw_m37 125 rfl
theorem q9158 : (Jvm.Cond.instanceMethod ({ cls := "WasteHouseModel$PartGraphsModel", name := "putPart", desc := "(I)V" } : Jvm.MethodName)) ∈ lw_all := lw_g (lw_at lw_m37 126 rfl) rfl
theorem q9159 : (Jvm.Cond.code ({ cls := "WasteHouseModel$PartGraphsModel", name := "putPart", desc := "(I)V" } : Jvm.MethodName) prog_61_method_49_code (4 : Nat) (Option.none : Option Jvm.ClassFile.FieldType)) ∈ lw_all := lw_g (lw_at lw_m37 127 rfl) rfl
theorem q9162 : (Jvm.Cond.instanceMethod ({ cls := "WasteHouseModel$PartGraphsModel", name := "loose", desc := "()I" } : Jvm.MethodName)) ∈ lw_all := lw_g (lw_at lw_m37 130 rfl) rfl
theorem q9163 : (Jvm.Cond.selects "WasteHouseModel$PartGraphsModel" ({ cls := "WasteHouseModel$PartGraphsModel", name := "loose", desc := "()I" } : Jvm.MethodName) ({ cls := "WasteHouseModel$PartGraphsModel", name := "loose", desc := "()I" } : Jvm.MethodName)) ∈ lw_all := lw_g (lw_at lw_m37 131 rfl) rfl
theorem q9164 : (Jvm.Cond.code ({ cls := "WasteHouseModel$PartGraphsModel", name := "loose", desc := "()I" } : Jvm.MethodName) prog_61_method_43_code (5 : Nat) (Option.some Jvm.ClassFile.FieldType.int)) ∈ lw_all := lw_g (lw_at lw_m37 132 rfl) rfl
theorem q9166 : (Jvm.Cond.instanceMethod ({ cls := "WasteHouseModel$PartGraphsModel", name := "thrown", desc := "()I" } : Jvm.MethodName)) ∈ lw_all := lw_g (lw_at lw_m37 134 rfl) rfl
theorem q9167 : (Jvm.Cond.selects "WasteHouseModel$PartGraphsModel" ({ cls := "WasteHouseModel$PartGraphsModel", name := "thrown", desc := "()I" } : Jvm.MethodName) ({ cls := "WasteHouseModel$PartGraphsModel", name := "thrown", desc := "()I" } : Jvm.MethodName)) ∈ lw_all := lw_g (lw_at lw_m37 135 rfl) rfl
theorem q9168 : (Jvm.Cond.code ({ cls := "WasteHouseModel$PartGraphsModel", name := "thrown", desc := "()I" } : Jvm.MethodName) prog_61_method_2_code (1 : Nat) (Option.some Jvm.ClassFile.FieldType.int)) ∈ lw_all := lw_g (lw_at lw_m37 136 rfl) rfl
theorem q9677 : (Jvm.Cond.castable "WasteHouseModel$PartGraphsModel" "java/lang/Object") ∈ lw_tbl := lw_at lw_m39 165 rfl
theorem in_X54 : ∀ w ∈ wsX540, w ∈ lw_all := lw_in wsX540 [7186, 7188, 7190, 7192, 7194, 7196, 7198, 7200, 7202, 7204, 7206, 7208, 7210, 7212, 7214, 7216, 7218, 7220] (by decide +kernel) (by decide +kernel)
