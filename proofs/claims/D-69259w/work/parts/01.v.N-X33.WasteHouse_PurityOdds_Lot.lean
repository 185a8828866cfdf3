/-! WasteHouse$PurityOdds$Lot -/
set_option maxRecDepth 100000
def RX33 : String := "WasteHouse$PurityOdds$Lot"
def TX33 : u_T := fun k => match k with
  | 0 => ("WasteHouse$PurityOdds$Lot", "grams", "J", false)
  | 1 => ("WasteHouse$PurityOdds$Lot", "kinds", "[I", true)
  | 2 => ("WasteHouse$PurityOdds$Lot", "weights", "[I", true)
  | 3 => ("WasteHouse$PurityOdds$Lot", "pieces", "I", false)
  | 4 => ("WasteHouse$PurityOdds$Lot", "sums", "[J", true)
  | 5 => ("WasteHouse$PurityOdds$Lot", "sum", "J", false)
  | 6 => ("WasteHouse$PurityOdds$Lot", "isJudged", "Z", false)
  | 7 => ("WasteHouse$PurityOdds$Lot", "judged", "LWasteHouse$PurityOdds$Ratio;", true)
  | 8 => ("WasteHouse$PurityOdds$Lot", "hours", "[I", true)
  | 9 => ("WasteHouse$PurityOdds$Lot", "dried", "[I", true)
  | 10 => ("WasteHouse$PurityOdds$Lot", "rows", "I", false)
  | _ => ("WasteHouse$PurityOdds$Lot", "places", "[B", true)
def tyX33 : Nat → FieldType := fun k => match k with
  | 0 => .long
  | 1 => .array .int
  | 2 => .array .int
  | 3 => .int
  | 4 => .array .long
  | 5 => .long
  | 6 => .boolean
  | 7 => .object "WasteHouse$PurityOdds$Ratio"
  | 8 => .array .int
  | 9 => .array .int
  | 10 => .int
  | _ => .array .byte
abbrev wsX330 : List Cond := u_ws RX33 TX33 12
theorem nmX33 : ∀ a, a < 12 → ∀ b, b < 12 → a ≠ b → (TX33 a).2.1 ≠ (TX33 b).2.1 := by decide +kernel
theorem tyX33_ok : ∀ k, k < 12 → parseFieldDescriptor (TX33 k).2.2.1 = some (tyX33 k) := by decide +kernel
abbrev cX33_init : ByteArray := prog_33_method_1_code
def yX33_init : MethodName := ⟨RX33, "<init>", "()V"⟩
def dkwX33_init_2 : List UInt8 := [16, 20, 188, 10, 181, 0, 32, 42, 16, 100, 188, 8, 181, 0, 35, 177]
abbrev dktX33_init_2 : List UInt8 := dkwX33_init_2 ++ []
def dkwX33_init_1 : List UInt8 := [181, 0, 18, 42, 187, 0, 22, 89, 183, 0, 24, 181, 0, 25, 42, 16, 20, 188, 10, 181, 0, 29, 42]
abbrev dktX33_init_1 : List UInt8 := dkwX33_init_1 ++ dktX33_init_2
def dkwX33_init_0 : List UInt8 := [42, 183, 0, 3, 42, 16, 30, 188, 10, 181, 0, 9, 42, 16, 30, 188, 10, 181, 0, 15, 42, 8, 188, 11]
abbrev dktX33_init_0 : List UInt8 := dkwX33_init_0 ++ dktX33_init_1
theorem dksX33_init_0 : cX33_init.data.toList.drop 0 = dktX33_init_0 := by decide +kernel
theorem dksX33_init_1 : cX33_init.data.toList.drop 24 = dktX33_init_1 := dk_seg dksX33_init_0 24 rfl rfl
theorem dksX33_init_2 : cX33_init.data.toList.drop 47 = dktX33_init_2 := dk_seg dksX33_init_1 23 rfl rfl
theorem dX33_init_0 : decode cX33_init 0 = .ok (.aload_n 0, 1) := dk_42 (dk_at dksX33_init_0 0 rfl rfl)
theorem dX33_init_1 : decode cX33_init 1 = .ok (.invokespecial 3, 3) := dk_183 0 3 (dk_at dksX33_init_0 1 rfl rfl)
theorem dX33_init_4 : decode cX33_init 4 = .ok (.aload_n 0, 1) := dk_42 (dk_at dksX33_init_0 4 rfl rfl)
theorem dX33_init_5 : decode cX33_init 5 = .ok (.bipush 30, 2) := dk_16 30 (dk_at dksX33_init_0 5 rfl rfl)
theorem dX33_init_7 : decode cX33_init 7 = .ok (.newarray .int, 2) := dk_188_10 (dk_at dksX33_init_0 7 rfl rfl)
theorem dX33_init_9 : decode cX33_init 9 = .ok (.putfield 9, 3) := dk_181 0 9 (dk_at dksX33_init_0 9 rfl rfl)
theorem dX33_init_12 : decode cX33_init 12 = .ok (.aload_n 0, 1) := dk_42 (dk_at dksX33_init_0 12 rfl rfl)
theorem dX33_init_13 : decode cX33_init 13 = .ok (.bipush 30, 2) := dk_16 30 (dk_at dksX33_init_0 13 rfl rfl)
theorem dX33_init_15 : decode cX33_init 15 = .ok (.newarray .int, 2) := dk_188_10 (dk_at dksX33_init_0 15 rfl rfl)
theorem dX33_init_17 : decode cX33_init 17 = .ok (.putfield 15, 3) := dk_181 0 15 (dk_at dksX33_init_0 17 rfl rfl)
theorem dX33_init_20 : decode cX33_init 20 = .ok (.aload_n 0, 1) := dk_42 (dk_at dksX33_init_0 20 rfl rfl)
theorem dX33_init_21 : decode cX33_init 21 = .ok (.iconst 5, 1) := dk_8 (dk_at dksX33_init_0 21 rfl rfl)
theorem dX33_init_22 : decode cX33_init 22 = .ok (.newarray .long, 2) := dk_188_11 (dk_at dksX33_init_0 22 rfl rfl)
theorem dX33_init_24 : decode cX33_init 24 = .ok (.putfield 18, 3) := dk_181 0 18 (dk_at dksX33_init_1 0 rfl rfl)
theorem dX33_init_27 : decode cX33_init 27 = .ok (.aload_n 0, 1) := dk_42 (dk_at dksX33_init_1 3 rfl rfl)
theorem dX33_init_28 : decode cX33_init 28 = .ok (.new 22, 3) := dk_187 0 22 (dk_at dksX33_init_1 4 rfl rfl)
theorem dX33_init_31 : decode cX33_init 31 = .ok (.dup, 1) := dk_89 (dk_at dksX33_init_1 7 rfl rfl)
theorem dX33_init_32 : decode cX33_init 32 = .ok (.invokespecial 24, 3) := dk_183 0 24 (dk_at dksX33_init_1 8 rfl rfl)
theorem dX33_init_35 : decode cX33_init 35 = .ok (.putfield 25, 3) := dk_181 0 25 (dk_at dksX33_init_1 11 rfl rfl)
theorem dX33_init_38 : decode cX33_init 38 = .ok (.aload_n 0, 1) := dk_42 (dk_at dksX33_init_1 14 rfl rfl)
theorem dX33_init_39 : decode cX33_init 39 = .ok (.bipush 20, 2) := dk_16 20 (dk_at dksX33_init_1 15 rfl rfl)
theorem dX33_init_41 : decode cX33_init 41 = .ok (.newarray .int, 2) := dk_188_10 (dk_at dksX33_init_1 17 rfl rfl)
theorem dX33_init_43 : decode cX33_init 43 = .ok (.putfield 29, 3) := dk_181 0 29 (dk_at dksX33_init_1 19 rfl rfl)
theorem dX33_init_46 : decode cX33_init 46 = .ok (.aload_n 0, 1) := dk_42 (dk_at dksX33_init_1 22 rfl rfl)
theorem dX33_init_47 : decode cX33_init 47 = .ok (.bipush 20, 2) := dk_16 20 (dk_at dksX33_init_2 0 rfl rfl)
theorem dX33_init_49 : decode cX33_init 49 = .ok (.newarray .int, 2) := dk_188_10 (dk_at dksX33_init_2 2 rfl rfl)
theorem dX33_init_51 : decode cX33_init 51 = .ok (.putfield 32, 3) := dk_181 0 32 (dk_at dksX33_init_2 4 rfl rfl)
theorem dX33_init_54 : decode cX33_init 54 = .ok (.aload_n 0, 1) := dk_42 (dk_at dksX33_init_2 7 rfl rfl)
theorem dX33_init_55 : decode cX33_init 55 = .ok (.bipush 100, 2) := dk_16 100 (dk_at dksX33_init_2 8 rfl rfl)
theorem dX33_init_57 : decode cX33_init 57 = .ok (.newarray .byte, 2) := dk_188_8 (dk_at dksX33_init_2 10 rfl rfl)
theorem dX33_init_59 : decode cX33_init 59 = .ok (.putfield 35, 3) := dk_181 0 35 (dk_at dksX33_init_2 12 rfl rfl)
theorem dX33_init_62 : decode cX33_init 62 = .ok (.return_, 1) := dk_177 (dk_at dksX33_init_2 15 rfl rfl)
abbrev cX33_draw : ByteArray := prog_33_method_2_code
def yX33_draw : MethodName := ⟨RX33, "draw", "(J)V"⟩
def dkwX33_draw_3 : List UInt8 := [42, 180, 0, 35, 21, 6, 51, 84, 42, 180, 0, 35, 21, 6, 21, 7, 84, 132, 5, 255, 167, 255, 193, 177]
abbrev dktX33_draw_3 : List UInt8 := dkwX33_draw_3 ++ []
def dkwX33_draw_2 : List UInt8 := [21, 5, 4, 96, 133, 113, 136, 54, 6, 42, 180, 0, 35, 21, 5, 51, 54, 7, 42, 180, 0, 35, 21, 5]
abbrev dktX33_draw_2 : List UInt8 := dkwX33_draw_2 ++ dktX33_draw_3
def dkwX33_draw_1 : List UInt8 := [16, 99, 54, 5, 21, 5, 158, 0, 64, 33, 20, 0, 39, 105, 20, 0, 41, 97, 66, 33, 16, 33, 125]
abbrev dktX33_draw_1 : List UInt8 := dkwX33_draw_1 ++ dktX33_draw_2
def dkwX33_draw_0 : List UInt8 := [3, 62, 29, 16, 100, 162, 0, 17, 42, 180, 0, 35, 29, 29, 145, 84, 132, 3, 1, 167, 255, 239, 31, 66]
abbrev dktX33_draw_0 : List UInt8 := dkwX33_draw_0 ++ dktX33_draw_1
theorem dksX33_draw_0 : cX33_draw.data.toList.drop 0 = dktX33_draw_0 := by decide +kernel
theorem dksX33_draw_1 : cX33_draw.data.toList.drop 24 = dktX33_draw_1 := dk_seg dksX33_draw_0 24 rfl rfl
theorem dksX33_draw_2 : cX33_draw.data.toList.drop 47 = dktX33_draw_2 := dk_seg dksX33_draw_1 23 rfl rfl
theorem dksX33_draw_3 : cX33_draw.data.toList.drop 71 = dktX33_draw_3 := dk_seg dksX33_draw_2 24 rfl rfl
theorem dX33_draw_0 : decode cX33_draw 0 = .ok (.iconst 0, 1) := dk_3 (dk_at dksX33_draw_0 0 rfl rfl)
theorem dX33_draw_1 : decode cX33_draw 1 = .ok (.istore_n 3, 1) := dk_62 (dk_at dksX33_draw_0 1 rfl rfl)
theorem dX33_draw_2 : decode cX33_draw 2 = .ok (.iload_n 3, 1) := dk_29 (dk_at dksX33_draw_0 2 rfl rfl)
theorem dX33_draw_3 : decode cX33_draw 3 = .ok (.bipush 100, 2) := dk_16 100 (dk_at dksX33_draw_0 3 rfl rfl)
theorem dX33_draw_5 : decode cX33_draw 5 = .ok (.if_icmp .ge 17, 3) := dk_162 0 17 (dk_at dksX33_draw_0 5 rfl rfl)
theorem dX33_draw_8 : decode cX33_draw 8 = .ok (.aload_n 0, 1) := dk_42 (dk_at dksX33_draw_0 8 rfl rfl)
theorem dX33_draw_9 : decode cX33_draw 9 = .ok (.getfield 35, 3) := dk_180 0 35 (dk_at dksX33_draw_0 9 rfl rfl)
theorem dX33_draw_12 : decode cX33_draw 12 = .ok (.iload_n 3, 1) := dk_29 (dk_at dksX33_draw_0 12 rfl rfl)
theorem dX33_draw_13 : decode cX33_draw 13 = .ok (.iload_n 3, 1) := dk_29 (dk_at dksX33_draw_0 13 rfl rfl)
theorem dX33_draw_14 : decode cX33_draw 14 = .ok (.i2b, 1) := dk_145 (dk_at dksX33_draw_0 14 rfl rfl)
theorem dX33_draw_15 : decode cX33_draw 15 = .ok (.bastore, 1) := dk_84 (dk_at dksX33_draw_0 15 rfl rfl)
theorem dX33_draw_16 : decode cX33_draw 16 = .ok (.iinc 3 1, 3) := dk_132 3 1 (dk_at dksX33_draw_0 16 rfl rfl)
theorem dX33_draw_19 : decode cX33_draw 19 = .ok (.goto (-17), 3) := dk_167 255 239 (dk_at dksX33_draw_0 19 rfl rfl)
theorem dX33_draw_22 : decode cX33_draw 22 = .ok (.lload_n 1, 1) := dk_31 (dk_at dksX33_draw_0 22 rfl rfl)
theorem dX33_draw_23 : decode cX33_draw 23 = .ok (.lstore_n 3, 1) := dk_66 (dk_at dksX33_draw_0 23 rfl rfl)
theorem dX33_draw_24 : decode cX33_draw 24 = .ok (.bipush 99, 2) := dk_16 99 (dk_at dksX33_draw_1 0 rfl rfl)
theorem dX33_draw_26 : decode cX33_draw 26 = .ok (.istore 5, 2) := dk_54 5 (dk_at dksX33_draw_1 2 rfl rfl)
theorem dX33_draw_28 : decode cX33_draw 28 = .ok (.iload 5, 2) := dk_21 5 (dk_at dksX33_draw_1 4 rfl rfl)
theorem dX33_draw_30 : decode cX33_draw 30 = .ok (.ifCond .le 64, 3) := dk_158 0 64 (dk_at dksX33_draw_1 6 rfl rfl)
theorem dX33_draw_33 : decode cX33_draw 33 = .ok (.lload_n 3, 1) := dk_33 (dk_at dksX33_draw_1 9 rfl rfl)
theorem dX33_draw_34 : decode cX33_draw 34 = .ok (.ldc2_w 39, 3) := dk_20 0 39 (dk_at dksX33_draw_1 10 rfl rfl)
theorem dX33_draw_37 : decode cX33_draw 37 = .ok (.lmul, 1) := dk_105 (dk_at dksX33_draw_1 13 rfl rfl)
theorem dX33_draw_38 : decode cX33_draw 38 = .ok (.ldc2_w 41, 3) := dk_20 0 41 (dk_at dksX33_draw_1 14 rfl rfl)
theorem dX33_draw_41 : decode cX33_draw 41 = .ok (.ladd, 1) := dk_97 (dk_at dksX33_draw_1 17 rfl rfl)
theorem dX33_draw_42 : decode cX33_draw 42 = .ok (.lstore_n 3, 1) := dk_66 (dk_at dksX33_draw_1 18 rfl rfl)
theorem dX33_draw_43 : decode cX33_draw 43 = .ok (.lload_n 3, 1) := dk_33 (dk_at dksX33_draw_1 19 rfl rfl)
theorem dX33_draw_44 : decode cX33_draw 44 = .ok (.bipush 33, 2) := dk_16 33 (dk_at dksX33_draw_1 20 rfl rfl)
theorem dX33_draw_46 : decode cX33_draw 46 = .ok (.lushr, 1) := dk_125 (dk_at dksX33_draw_1 22 rfl rfl)
theorem dX33_draw_47 : decode cX33_draw 47 = .ok (.iload 5, 2) := dk_21 5 (dk_at dksX33_draw_2 0 rfl rfl)
theorem dX33_draw_49 : decode cX33_draw 49 = .ok (.iconst 1, 1) := dk_4 (dk_at dksX33_draw_2 2 rfl rfl)
theorem dX33_draw_50 : decode cX33_draw 50 = .ok (.iadd, 1) := dk_96 (dk_at dksX33_draw_2 3 rfl rfl)
theorem dX33_draw_51 : decode cX33_draw 51 = .ok (.i2l, 1) := dk_133 (dk_at dksX33_draw_2 4 rfl rfl)
theorem dX33_draw_52 : decode cX33_draw 52 = .ok (.lrem, 1) := dk_113 (dk_at dksX33_draw_2 5 rfl rfl)
theorem dX33_draw_53 : decode cX33_draw 53 = .ok (.l2i, 1) := dk_136 (dk_at dksX33_draw_2 6 rfl rfl)
theorem dX33_draw_54 : decode cX33_draw 54 = .ok (.istore 6, 2) := dk_54 6 (dk_at dksX33_draw_2 7 rfl rfl)
theorem dX33_draw_56 : decode cX33_draw 56 = .ok (.aload_n 0, 1) := dk_42 (dk_at dksX33_draw_2 9 rfl rfl)
theorem dX33_draw_57 : decode cX33_draw 57 = .ok (.getfield 35, 3) := dk_180 0 35 (dk_at dksX33_draw_2 10 rfl rfl)
theorem dX33_draw_60 : decode cX33_draw 60 = .ok (.iload 5, 2) := dk_21 5 (dk_at dksX33_draw_2 13 rfl rfl)
theorem dX33_draw_62 : decode cX33_draw 62 = .ok (.baload, 1) := dk_51 (dk_at dksX33_draw_2 15 rfl rfl)
theorem dX33_draw_63 : decode cX33_draw 63 = .ok (.istore 7, 2) := dk_54 7 (dk_at dksX33_draw_2 16 rfl rfl)
theorem dX33_draw_65 : decode cX33_draw 65 = .ok (.aload_n 0, 1) := dk_42 (dk_at dksX33_draw_2 18 rfl rfl)
theorem dX33_draw_66 : decode cX33_draw 66 = .ok (.getfield 35, 3) := dk_180 0 35 (dk_at dksX33_draw_2 19 rfl rfl)
theorem dX33_draw_69 : decode cX33_draw 69 = .ok (.iload 5, 2) := dk_21 5 (dk_at dksX33_draw_2 22 rfl rfl)
theorem dX33_draw_71 : decode cX33_draw 71 = .ok (.aload_n 0, 1) := dk_42 (dk_at dksX33_draw_3 0 rfl rfl)
theorem dX33_draw_72 : decode cX33_draw 72 = .ok (.getfield 35, 3) := dk_180 0 35 (dk_at dksX33_draw_3 1 rfl rfl)
theorem dX33_draw_75 : decode cX33_draw 75 = .ok (.iload 6, 2) := dk_21 6 (dk_at dksX33_draw_3 4 rfl rfl)
theorem dX33_draw_77 : decode cX33_draw 77 = .ok (.baload, 1) := dk_51 (dk_at dksX33_draw_3 6 rfl rfl)
theorem dX33_draw_78 : decode cX33_draw 78 = .ok (.bastore, 1) := dk_84 (dk_at dksX33_draw_3 7 rfl rfl)
theorem dX33_draw_79 : decode cX33_draw 79 = .ok (.aload_n 0, 1) := dk_42 (dk_at dksX33_draw_3 8 rfl rfl)
theorem dX33_draw_80 : decode cX33_draw 80 = .ok (.getfield 35, 3) := dk_180 0 35 (dk_at dksX33_draw_3 9 rfl rfl)
theorem dX33_draw_83 : decode cX33_draw 83 = .ok (.iload 6, 2) := dk_21 6 (dk_at dksX33_draw_3 12 rfl rfl)
theorem dX33_draw_85 : decode cX33_draw 85 = .ok (.iload 7, 2) := dk_21 7 (dk_at dksX33_draw_3 14 rfl rfl)
theorem dX33_draw_87 : decode cX33_draw 87 = .ok (.bastore, 1) := dk_84 (dk_at dksX33_draw_3 16 rfl rfl)
theorem dX33_draw_88 : decode cX33_draw 88 = .ok (.iinc 5 (-1), 3) := dk_132 5 255 (dk_at dksX33_draw_3 17 rfl rfl)
theorem dX33_draw_91 : decode cX33_draw 91 = .ok (.goto (-63), 3) := dk_167 255 193 (dk_at dksX33_draw_3 20 rfl rfl)
theorem dX33_draw_94 : decode cX33_draw 94 = .ok (.return_, 1) := dk_177 (dk_at dksX33_draw_3 23 rfl rfl)
abbrev cX33_isDry : ByteArray := prog_33_method_3_code
def yX33_isDry : MethodName := ⟨RX33, "isDry", "()Z"⟩
def dkwX33_isDry_1 : List UInt8 := [180, 0, 43, 5, 100, 46, 160, 0, 7, 4, 167, 0, 4, 3, 172]
abbrev dktX33_isDry_1 : List UInt8 := dkwX33_isDry_1 ++ []
def dkwX33_isDry_0 : List UInt8 := [42, 180, 0, 43, 4, 164, 0, 32, 42, 180, 0, 32, 42, 180, 0, 43, 4, 100, 46, 42, 180, 0, 32, 42]
abbrev dktX33_isDry_0 : List UInt8 := dkwX33_isDry_0 ++ dktX33_isDry_1
theorem dksX33_isDry_0 : cX33_isDry.data.toList.drop 0 = dktX33_isDry_0 := by decide +kernel
theorem dksX33_isDry_1 : cX33_isDry.data.toList.drop 24 = dktX33_isDry_1 := dk_seg dksX33_isDry_0 24 rfl rfl
theorem dX33_isDry_0 : decode cX33_isDry 0 = .ok (.aload_n 0, 1) := dk_42 (dk_at dksX33_isDry_0 0 rfl rfl)
theorem dX33_isDry_1 : decode cX33_isDry 1 = .ok (.getfield 43, 3) := dk_180 0 43 (dk_at dksX33_isDry_0 1 rfl rfl)
theorem dX33_isDry_4 : decode cX33_isDry 4 = .ok (.iconst 1, 1) := dk_4 (dk_at dksX33_isDry_0 4 rfl rfl)
theorem dX33_isDry_5 : decode cX33_isDry 5 = .ok (.if_icmp .le 32, 3) := dk_164 0 32 (dk_at dksX33_isDry_0 5 rfl rfl)
theorem dX33_isDry_8 : decode cX33_isDry 8 = .ok (.aload_n 0, 1) := dk_42 (dk_at dksX33_isDry_0 8 rfl rfl)
theorem dX33_isDry_9 : decode cX33_isDry 9 = .ok (.getfield 32, 3) := dk_180 0 32 (dk_at dksX33_isDry_0 9 rfl rfl)
theorem dX33_isDry_12 : decode cX33_isDry 12 = .ok (.aload_n 0, 1) := dk_42 (dk_at dksX33_isDry_0 12 rfl rfl)
theorem dX33_isDry_13 : decode cX33_isDry 13 = .ok (.getfield 43, 3) := dk_180 0 43 (dk_at dksX33_isDry_0 13 rfl rfl)
theorem dX33_isDry_16 : decode cX33_isDry 16 = .ok (.iconst 1, 1) := dk_4 (dk_at dksX33_isDry_0 16 rfl rfl)
theorem dX33_isDry_17 : decode cX33_isDry 17 = .ok (.isub, 1) := dk_100 (dk_at dksX33_isDry_0 17 rfl rfl)
theorem dX33_isDry_18 : decode cX33_isDry 18 = .ok (.iaload, 1) := dk_46 (dk_at dksX33_isDry_0 18 rfl rfl)
theorem dX33_isDry_19 : decode cX33_isDry 19 = .ok (.aload_n 0, 1) := dk_42 (dk_at dksX33_isDry_0 19 rfl rfl)
theorem dX33_isDry_20 : decode cX33_isDry 20 = .ok (.getfield 32, 3) := dk_180 0 32 (dk_at dksX33_isDry_0 20 rfl rfl)
theorem dX33_isDry_23 : decode cX33_isDry 23 = .ok (.aload_n 0, 1) := dk_42 (dk_at dksX33_isDry_0 23 rfl rfl)
theorem dX33_isDry_24 : decode cX33_isDry 24 = .ok (.getfield 43, 3) := dk_180 0 43 (dk_at dksX33_isDry_1 0 rfl rfl)
theorem dX33_isDry_27 : decode cX33_isDry 27 = .ok (.iconst 2, 1) := dk_5 (dk_at dksX33_isDry_1 3 rfl rfl)
theorem dX33_isDry_28 : decode cX33_isDry 28 = .ok (.isub, 1) := dk_100 (dk_at dksX33_isDry_1 4 rfl rfl)
theorem dX33_isDry_29 : decode cX33_isDry 29 = .ok (.iaload, 1) := dk_46 (dk_at dksX33_isDry_1 5 rfl rfl)
theorem dX33_isDry_30 : decode cX33_isDry 30 = .ok (.if_icmp .ne 7, 3) := dk_160 0 7 (dk_at dksX33_isDry_1 6 rfl rfl)
theorem dX33_isDry_33 : decode cX33_isDry 33 = .ok (.iconst 1, 1) := dk_4 (dk_at dksX33_isDry_1 9 rfl rfl)
theorem dX33_isDry_34 : decode cX33_isDry 34 = .ok (.goto 4, 3) := dk_167 0 4 (dk_at dksX33_isDry_1 10 rfl rfl)
theorem dX33_isDry_37 : decode cX33_isDry 37 = .ok (.iconst 0, 1) := dk_3 (dk_at dksX33_isDry_1 13 rfl rfl)
theorem dX33_isDry_38 : decode cX33_isDry 38 = .ok (.ireturn, 1) := dk_172 (dk_at dksX33_isDry_1 14 rfl rfl)
theorem q432 : (Jvm.Cond.initialized "WasteHouse$PurityOdds$Lot") ∈ lw_all := lw_g (lw_at lw_m1 40 rfl) rfl
theorem q1658 : (Jvm.Cond.instantiable "WasteHouse$PurityOdds$Lot" (12 : Nat)) ∈ lw_all := lw_g (lw_at lw_m6 66 rfl) rfl
theorem q1660 : (Jvm.Cond.instanceMethod ({ cls := "WasteHouse$PurityOdds$Lot", name := "<init>", desc := "()V" } : Jvm.MethodName)) ∈ lw_all := lw_g (lw_at lw_m6 68 rfl) rfl
theorem q1661 : (Jvm.Cond.code ({ cls := "WasteHouse$PurityOdds$Lot", name := "<init>", desc := "()V" } : Jvm.MethodName) prog_33_method_1_code (1 : Nat) (Option.none : Option Jvm.ClassFile.FieldType)) ∈ lw_all := lw_g (lw_at lw_m6 69 rfl) rfl
theorem q1662 : (Jvm.Cond.methodLink "WasteHouse$PurityOdds$Lot" (3 : Nat) ({ cls := "java/lang/Object", name := "<init>", desc := "()V" } : Jvm.MethodName)) ∈ lw_all := lw_g (lw_at lw_m6 70 rfl) rfl
theorem q1663 : (Jvm.Cond.classLink "WasteHouse$PurityOdds$Lot" (22 : Nat) "WasteHouse$PurityOdds$Ratio") ∈ lw_all := lw_g (lw_at lw_m6 71 rfl) rfl
theorem q1664 : (Jvm.Cond.methodLinkNest "WasteHouse$PurityOdds$Lot" (24 : Nat) ({ cls := "WasteHouse$PurityOdds$Ratio", name := "<init>", desc := "()V" } : Jvm.MethodName) "WasteHouse") ∈ lw_tbl := lw_at lw_m6 72 rfl
theorem q1667 : (Jvm.Cond.fieldLink "WasteHouse$PurityOdds$Lot" (9 : Nat) "WasteHouse$PurityOdds$Lot" "kinds" "[I") ∈ lw_all := lw_g (lw_at lw_m6 75 rfl) rfl
theorem q1669 : (Jvm.Cond.fieldLink "WasteHouse$PurityOdds$Lot" (15 : Nat) "WasteHouse$PurityOdds$Lot" "weights" "[I") ∈ lw_all := lw_g (lw_at lw_m6 77 rfl) rfl
theorem q1672 : (Jvm.Cond.fieldLink "WasteHouse$PurityOdds$Lot" (18 : Nat) "WasteHouse$PurityOdds$Lot" "sums" "[J") ∈ lw_all := lw_g (lw_at lw_m6 80 rfl) rfl
theorem q1676 : (Jvm.Cond.fieldLink "WasteHouse$PurityOdds$Lot" (25 : Nat) "WasteHouse$PurityOdds$Lot" "judged" "LWasteHouse$PurityOdds$Ratio;") ∈ lw_all := lw_g (lw_at lw_m6 84 rfl) rfl
theorem q1678 : (Jvm.Cond.fieldLink "WasteHouse$PurityOdds$Lot" (29 : Nat) "WasteHouse$PurityOdds$Lot" "hours" "[I") ∈ lw_all := lw_g (lw_at lw_m6 86 rfl) rfl
theorem q1680 : (Jvm.Cond.fieldLink "WasteHouse$PurityOdds$Lot" (32 : Nat) "WasteHouse$PurityOdds$Lot" "dried" "[I") ∈ lw_all := lw_g (lw_at lw_m6 88 rfl) rfl
theorem q1682 : (Jvm.Cond.fieldLink "WasteHouse$PurityOdds$Lot" (43 : Nat) "WasteHouse$PurityOdds$Lot" "rows" "I") ∈ lw_all := lw_g (lw_at lw_m6 90 rfl) rfl
theorem q1684 : (Jvm.Cond.fieldLink "WasteHouse$PurityOdds$Lot" (35 : Nat) "WasteHouse$PurityOdds$Lot" "places" "[B") ∈ lw_all := lw_g (lw_at lw_m6 92 rfl) rfl
theorem q1686 : (Jvm.Cond.lays "WasteHouse$PurityOdds$Lot" "WasteHouse$PurityOdds$Lot" "grams" "J") ∈ lw_all := lw_g (lw_at lw_m6 94 rfl) rfl
theorem q1687 : (Jvm.Cond.soleField "WasteHouse$PurityOdds$Lot" "grams") ∈ lw_all := lw_g (lw_at lw_m6 95 rfl) rfl
theorem q1688 : (Jvm.Cond.laysFinal "WasteHouse$PurityOdds$Lot" "WasteHouse$PurityOdds$Lot" "kinds" "[I") ∈ lw_all := lw_g (lw_at lw_m6 96 rfl) rfl
theorem q1689 : (Jvm.Cond.soleField "WasteHouse$PurityOdds$Lot" "kinds") ∈ lw_all := lw_g (lw_at lw_m6 97 rfl) rfl
theorem q1690 : (Jvm.Cond.laysFinal "WasteHouse$PurityOdds$Lot" "WasteHouse$PurityOdds$Lot" "weights" "[I") ∈ lw_all := lw_g (lw_at lw_m6 98 rfl) rfl
theorem q1691 : (Jvm.Cond.soleField "WasteHouse$PurityOdds$Lot" "weights") ∈ lw_all := lw_g (lw_at lw_m6 99 rfl) rfl
theorem q1692 : (Jvm.Cond.lays "WasteHouse$PurityOdds$Lot" "WasteHouse$PurityOdds$Lot" "pieces" "I") ∈ lw_all := lw_g (lw_at lw_m6 100 rfl) rfl
theorem q1693 : (Jvm.Cond.soleField "WasteHouse$PurityOdds$Lot" "pieces") ∈ lw_all := lw_g (lw_at lw_m6 101 rfl) rfl
theorem q1694 : (Jvm.Cond.laysFinal "WasteHouse$PurityOdds$Lot" "WasteHouse$PurityOdds$Lot" "sums" "[J") ∈ lw_all := lw_g (lw_at lw_m6 102 rfl) rfl
theorem q1695 : (Jvm.Cond.soleField "WasteHouse$PurityOdds$Lot" "sums") ∈ lw_all := lw_g (lw_at lw_m6 103 rfl) rfl
theorem q1696 : (Jvm.Cond.lays "WasteHouse$PurityOdds$Lot" "WasteHouse$PurityOdds$Lot" "sum" "J") ∈ lw_all := lw_g (lw_at lw_m6 104 rfl) rfl
theorem q1697 : (Jvm.Cond.soleField "WasteHouse$PurityOdds$Lot" "sum") ∈ lw_all := lw_g (lw_at lw_m6 105 rfl) rfl
theorem q1698 : (Jvm.Cond.lays "WasteHouse$PurityOdds$Lot" "WasteHouse$PurityOdds$Lot" "isJudged" "Z") ∈ lw_all := lw_g (lw_at lw_m6 106 rfl) rfl
theorem q1699 : (Jvm.Cond.soleField "WasteHouse$PurityOdds$Lot" "isJudged") ∈ lw_all := lw_g (lw_at lw_m6 107 rfl) rfl
theorem q1700 : (Jvm.Cond.laysFinal "WasteHouse$PurityOdds$Lot" "WasteHouse$PurityOdds$Lot" "judged" "LWasteHouse$PurityOdds$Ratio;") ∈ lw_all := lw_g (lw_at lw_m6 108 rfl) rfl
theorem q1701 : (Jvm.Cond.soleField "WasteHouse$PurityOdds$Lot" "judged") ∈ lw_all := lw_g (lw_at lw_m6 109 rfl) rfl
theorem q1702 : (Jvm.Cond.laysFinal "WasteHouse$PurityOdds$Lot" "WasteHouse$PurityOdds$Lot" "hours" "[I") ∈ lw_all := lw_g (lw_at lw_m6 110 rfl) rfl
theorem q1703 : (Jvm.Cond.soleField "WasteHouse$PurityOdds$Lot" "hours") ∈ lw_all := lw_g (lw_at lw_m6 111 rfl) rfl
theorem q1704 : (Jvm.Cond.laysFinal "WasteHouse$PurityOdds$Lot" "WasteHouse$PurityOdds$Lot" "dried" "[I") ∈ lw_all := lw_g (lw_at lw_m6 112 rfl) rfl
theorem q1705 : (Jvm.Cond.soleField "WasteHouse$PurityOdds$Lot" "dried") ∈ lw_all := lw_g (lw_at lw_m6 113 rfl) rfl
theorem q1706 : (Jvm.Cond.lays "WasteHouse$PurityOdds$Lot" "WasteHouse$PurityOdds$Lot" "rows" "I") ∈ lw_all := lw_g (lw_at lw_m6 114 rfl) rfl
theorem q1707 : (Jvm.Cond.soleField "WasteHouse$PurityOdds$Lot" "rows") ∈ lw_all := lw_g (lw_at lw_m6 115 rfl) rfl
theorem q1708 : (Jvm.Cond.laysFinal "WasteHouse$PurityOdds$Lot" "WasteHouse$PurityOdds$Lot" "places" "[B") ∈ lw_all := lw_g (lw_at lw_m6 116 rfl) rfl
theorem q1709 : (Jvm.Cond.soleField "WasteHouse$PurityOdds$Lot" "places") ∈ lw_all := lw_g (lw_at lw_m6 117 rfl) rfl
theorem q1710 : (Jvm.Cond.superclass "WasteHouse$PurityOdds$Lot" "java/lang/Object") ∈ lw_all := lw_g (lw_at lw_m6 118 rfl) rfl
theorem q2003 : (Jvm.Cond.selects "WasteHouse$PurityOdds$Lot" ({ cls := "java/lang/Object", name := "getClass", desc := "()Ljava/lang/Class;" } : Jvm.MethodName) ({ cls := "java/lang/Object", name := "getClass", desc := "()Ljava/lang/Class;" } : Jvm.MethodName)) ∈ lw_all := lw_g (lw_at lw_m7 171 rfl) rfl
theorem q3113 : (Jvm.Cond.selects "WasteHouse$PurityOdds$Lot" ({ cls := "java/lang/Object", name := "equals", desc := "(Ljava/lang/Object;)Z" } : Jvm.MethodName) ({ cls := "java/lang/Object", name := "equals", desc := "(Ljava/lang/Object;)Z" } : Jvm.MethodName)) ∈ lw_all := lw_g (lw_at lw_m12 81 rfl) rfl
theorem q3631 : (Jvm.Cond.selects "WasteHouse$PurityOdds$Lot" ({ cls := "java/lang/Object", name := "hashCode", desc := "()I" } : Jvm.MethodName) ({ cls := "java/lang/Object", name := "hashCode", desc := "()I" } : Jvm.MethodName)) ∈ lw_all := lw_g (lw_at lw_m14 119 rfl) rfl
theorem q5408 : (Jvm.Cond.instanceMethod ({ cls := "WasteHouse$PurityOdds$Lot", name := "draw", desc := "(J)V" } : Jvm.MethodName)) ∈ lw_all := lw_g (lw_at lw_m21 216 rfl) rfl
theorem q5409 : (Jvm.Cond.selects "WasteHouse$PurityOdds$Lot" ({ cls := "WasteHouse$PurityOdds$Lot", name := "draw", desc := "(J)V" } : Jvm.MethodName) ({ cls := "WasteHouse$PurityOdds$Lot", name := "draw", desc := "(J)V" } : Jvm.MethodName)) ∈ lw_all := lw_g (lw_at lw_m21 217 rfl) rfl
theorem q5410 : (Jvm.Cond.code ({ cls := "WasteHouse$PurityOdds$Lot", name := "draw", desc := "(J)V" } : Jvm.MethodName) prog_33_method_2_code (8 : Nat) (Option.none : Option Jvm.ClassFile.FieldType)) ∈ lw_all := lw_g (lw_at lw_m21 218 rfl) rfl
theorem q5411 : (Jvm.Cond.constantLong "WasteHouse$PurityOdds$Lot" (39 : Nat) (6364136223846793005 : Int64)) ∈ lw_all := lw_g (lw_at lw_m21 219 rfl) rfl
theorem q5412 : (Jvm.Cond.constantLong "WasteHouse$PurityOdds$Lot" (41 : Nat) (1442695040888963407 : Int64)) ∈ lw_all := lw_g (lw_at lw_m21 220 rfl) rfl
theorem q6334 : (Jvm.Cond.instanceMethod ({ cls := "WasteHouse$PurityOdds$Lot", name := "isDry", desc := "()Z" } : Jvm.MethodName)) ∈ lw_all := lw_g (lw_at lw_m25 182 rfl) rfl
theorem q6335 : (Jvm.Cond.selects "WasteHouse$PurityOdds$Lot" ({ cls := "WasteHouse$PurityOdds$Lot", name := "isDry", desc := "()Z" } : Jvm.MethodName) ({ cls := "WasteHouse$PurityOdds$Lot", name := "isDry", desc := "()Z" } : Jvm.MethodName)) ∈ lw_all := lw_g (lw_at lw_m25 183 rfl) rfl
theorem q6336 : (Jvm.Cond.code ({ cls := "WasteHouse$PurityOdds$Lot", name := "isDry", desc := "()Z" } : Jvm.MethodName) prog_33_method_3_code (1 : Nat) (Option.some Jvm.ClassFile.FieldType.boolean)) ∈ lw_all := lw_g (lw_at lw_m25 184 rfl) rfl
theorem q9626 : (Jvm.Cond.castable "WasteHouse$PurityOdds$Lot" "java/lang/Object") ∈ lw_tbl := lw_at lw_m39 114 rfl
theorem in_X33 : ∀ w ∈ wsX330, w ∈ lw_all := lw_in wsX330 [1686, 1688, 1690, 1692, 1694, 1696, 1698, 1700, 1702, 1704, 1706, 1708] (by decide +kernel) (by decide +kernel)
