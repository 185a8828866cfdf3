/-! WasteHouse$TicketChain$Ticket -/
set_option maxRecDepth 100000
def RX63 : String := "WasteHouse$TicketChain$Ticket"
def TX63 : u_T := fun k => match k with
  | 0 => ("WasteHouse$TicketChain$Ticket", "number", "I", true)
  | 1 => ("WasteHouse$TicketChain$Ticket", "fields", "[J", true)
  | 2 => ("WasteHouse$TicketChain$Ticket", "parts", "[J", true)
  | 3 => ("WasteHouse$TicketChain$Ticket", "shares", "[J", true)
  | _ => ("WasteHouse$TicketChain$Ticket", "rests", "[J", true)
def tyX63 : Nat → FieldType := fun k => match k with
  | 0 => .int
  | 1 => .array .long
  | 2 => .array .long
  | 3 => .array .long
  | _ => .array .long
abbrev wsX630 : List Cond := u_ws RX63 TX63 5
theorem nmX63 : ∀ a, a < 5 → ∀ b, b < 5 → a ≠ b → (TX63 a).2.1 ≠ (TX63 b).2.1 := by decide +kernel
theorem tyX63_ok : ∀ k, k < 5 → parseFieldDescriptor (TX63 k).2.2.1 = some (tyX63 k) := by decide +kernel
abbrev cX63_fits : ByteArray := prog_52_method_9_code
def yX63_fits : MethodName := ⟨RX63, "fits", "(IJ)Z"⟩
def dkwX63_fits_6 : List UInt8 := [167, 0, 4, 3, 172, 3, 172]
abbrev dktX63_fits_6 : List UInt8 := dkwX63_fits_6 ++ []
def dkwX63_fits_5 : List UInt8 := [157, 0, 7, 4, 167, 0, 4, 3, 172, 31, 9, 148, 155, 0, 15, 31, 20, 0, 63, 148, 156, 0, 7, 4]
abbrev dktX63_fits_5 : List UInt8 := dkwX63_fits_5 ++ dktX63_fits_6
def dkwX63_fits_4 : List UInt8 := [20, 0, 59, 148, 157, 0, 7, 4, 167, 0, 4, 3, 172, 31, 9, 148, 155, 0, 15, 31, 20, 0, 61, 148]
abbrev dktX63_fits_4 : List UInt8 := dkwX63_fits_4 ++ dktX63_fits_5
def dkwX63_fits_3 : List UInt8 := [155, 0, 15, 31, 20, 0, 57, 148, 156, 0, 7, 4, 167, 0, 4, 3, 172, 31, 9, 148, 155, 0, 15, 31]
abbrev dktX63_fits_3 : List UInt8 := dkwX63_fits_3 ++ dktX63_fits_4
def dkwX63_fits_2 : List UInt8 := [31, 9, 148, 155, 0, 15, 31, 20, 0, 55, 148, 156, 0, 7, 4, 167, 0, 4, 3, 172, 31, 9, 148]
abbrev dktX63_fits_2 : List UInt8 := dkwX63_fits_2 ++ dktX63_fits_3
def dkwX63_fits_1 : List UInt8 := [170, 0, 0, 0, 0, 0, 143, 0, 0, 0, 1, 0, 0, 0, 7, 0, 0, 0, 43, 0, 0, 0, 63, 0, 0, 0, 83, 0, 0, 0, 83, 0, 0, 0, 143, 0, 0, 0, 103, 0, 0, 0, 123]
abbrev dktX63_fits_1 : List UInt8 := dkwX63_fits_1 ++ dktX63_fits_2
def dkwX63_fits_0 : List UInt8 := [26]
abbrev dktX63_fits_0 : List UInt8 := dkwX63_fits_0 ++ dktX63_fits_1
theorem dksX63_fits_0 : cX63_fits.data.toList.drop 0 = dktX63_fits_0 := by decide +kernel
theorem dksX63_fits_1 : cX63_fits.data.toList.drop 1 = dktX63_fits_1 := dk_seg dksX63_fits_0 1 rfl rfl
theorem dksX63_fits_2 : cX63_fits.data.toList.drop 44 = dktX63_fits_2 := dk_seg dksX63_fits_1 43 rfl rfl
theorem dksX63_fits_3 : cX63_fits.data.toList.drop 67 = dktX63_fits_3 := dk_seg dksX63_fits_2 23 rfl rfl
theorem dksX63_fits_4 : cX63_fits.data.toList.drop 91 = dktX63_fits_4 := dk_seg dksX63_fits_3 24 rfl rfl
theorem dksX63_fits_5 : cX63_fits.data.toList.drop 115 = dktX63_fits_5 := dk_seg dksX63_fits_4 24 rfl rfl
theorem dksX63_fits_6 : cX63_fits.data.toList.drop 139 = dktX63_fits_6 := dk_seg dksX63_fits_5 24 rfl rfl
theorem dX63_fits_0 : decode cX63_fits 0 = .ok (.iload_n 0, 1) := dk_26 (dk_at dksX63_fits_0 0 rfl rfl)
theorem dX63_fits_1 : decode cX63_fits 1 = .ok (.tableswitch 143 1 7 #[43, 63, 83, 83, 143, 103, 123], 43) := by decide +kernel
theorem dX63_fits_44 : decode cX63_fits 44 = .ok (.lload_n 1, 1) := dk_31 (dk_at dksX63_fits_2 0 rfl rfl)
theorem dX63_fits_45 : decode cX63_fits 45 = .ok (.lconst 0, 1) := dk_9 (dk_at dksX63_fits_2 1 rfl rfl)
theorem dX63_fits_46 : decode cX63_fits 46 = .ok (.lcmp, 1) := dk_148 (dk_at dksX63_fits_2 2 rfl rfl)
theorem dX63_fits_47 : decode cX63_fits 47 = .ok (.ifCond .lt 15, 3) := dk_155 0 15 (dk_at dksX63_fits_2 3 rfl rfl)
theorem dX63_fits_50 : decode cX63_fits 50 = .ok (.lload_n 1, 1) := dk_31 (dk_at dksX63_fits_2 6 rfl rfl)
theorem dX63_fits_51 : decode cX63_fits 51 = .ok (.ldc2_w 55, 3) := dk_20 0 55 (dk_at dksX63_fits_2 7 rfl rfl)
theorem dX63_fits_54 : decode cX63_fits 54 = .ok (.lcmp, 1) := dk_148 (dk_at dksX63_fits_2 10 rfl rfl)
theorem dX63_fits_55 : decode cX63_fits 55 = .ok (.ifCond .ge 7, 3) := dk_156 0 7 (dk_at dksX63_fits_2 11 rfl rfl)
theorem dX63_fits_58 : decode cX63_fits 58 = .ok (.iconst 1, 1) := dk_4 (dk_at dksX63_fits_2 14 rfl rfl)
theorem dX63_fits_59 : decode cX63_fits 59 = .ok (.goto 4, 3) := dk_167 0 4 (dk_at dksX63_fits_2 15 rfl rfl)
theorem dX63_fits_62 : decode cX63_fits 62 = .ok (.iconst 0, 1) := dk_3 (dk_at dksX63_fits_2 18 rfl rfl)
theorem dX63_fits_63 : decode cX63_fits 63 = .ok (.ireturn, 1) := dk_172 (dk_at dksX63_fits_2 19 rfl rfl)
theorem dX63_fits_64 : decode cX63_fits 64 = .ok (.lload_n 1, 1) := dk_31 (dk_at dksX63_fits_2 20 rfl rfl)
theorem dX63_fits_65 : decode cX63_fits 65 = .ok (.lconst 0, 1) := dk_9 (dk_at dksX63_fits_2 21 rfl rfl)
theorem dX63_fits_66 : decode cX63_fits 66 = .ok (.lcmp, 1) := dk_148 (dk_at dksX63_fits_2 22 rfl rfl)
theorem dX63_fits_67 : decode cX63_fits 67 = .ok (.ifCond .lt 15, 3) := dk_155 0 15 (dk_at dksX63_fits_3 0 rfl rfl)
theorem dX63_fits_70 : decode cX63_fits 70 = .ok (.lload_n 1, 1) := dk_31 (dk_at dksX63_fits_3 3 rfl rfl)
theorem dX63_fits_71 : decode cX63_fits 71 = .ok (.ldc2_w 57, 3) := dk_20 0 57 (dk_at dksX63_fits_3 4 rfl rfl)
theorem dX63_fits_74 : decode cX63_fits 74 = .ok (.lcmp, 1) := dk_148 (dk_at dksX63_fits_3 7 rfl rfl)
theorem dX63_fits_75 : decode cX63_fits 75 = .ok (.ifCond .ge 7, 3) := dk_156 0 7 (dk_at dksX63_fits_3 8 rfl rfl)
theorem dX63_fits_78 : decode cX63_fits 78 = .ok (.iconst 1, 1) := dk_4 (dk_at dksX63_fits_3 11 rfl rfl)
theorem dX63_fits_79 : decode cX63_fits 79 = .ok (.goto 4, 3) := dk_167 0 4 (dk_at dksX63_fits_3 12 rfl rfl)
theorem dX63_fits_82 : decode cX63_fits 82 = .ok (.iconst 0, 1) := dk_3 (dk_at dksX63_fits_3 15 rfl rfl)
theorem dX63_fits_83 : decode cX63_fits 83 = .ok (.ireturn, 1) := dk_172 (dk_at dksX63_fits_3 16 rfl rfl)
theorem dX63_fits_84 : decode cX63_fits 84 = .ok (.lload_n 1, 1) := dk_31 (dk_at dksX63_fits_3 17 rfl rfl)
theorem dX63_fits_85 : decode cX63_fits 85 = .ok (.lconst 0, 1) := dk_9 (dk_at dksX63_fits_3 18 rfl rfl)
theorem dX63_fits_86 : decode cX63_fits 86 = .ok (.lcmp, 1) := dk_148 (dk_at dksX63_fits_3 19 rfl rfl)
theorem dX63_fits_87 : decode cX63_fits 87 = .ok (.ifCond .lt 15, 3) := dk_155 0 15 (dk_at dksX63_fits_3 20 rfl rfl)
theorem dX63_fits_90 : decode cX63_fits 90 = .ok (.lload_n 1, 1) := dk_31 (dk_at dksX63_fits_3 23 rfl rfl)
theorem dX63_fits_91 : decode cX63_fits 91 = .ok (.ldc2_w 59, 3) := dk_20 0 59 (dk_at dksX63_fits_4 0 rfl rfl)
theorem dX63_fits_94 : decode cX63_fits 94 = .ok (.lcmp, 1) := dk_148 (dk_at dksX63_fits_4 3 rfl rfl)
theorem dX63_fits_95 : decode cX63_fits 95 = .ok (.ifCond .gt 7, 3) := dk_157 0 7 (dk_at dksX63_fits_4 4 rfl rfl)
theorem dX63_fits_98 : decode cX63_fits 98 = .ok (.iconst 1, 1) := dk_4 (dk_at dksX63_fits_4 7 rfl rfl)
theorem dX63_fits_99 : decode cX63_fits 99 = .ok (.goto 4, 3) := dk_167 0 4 (dk_at dksX63_fits_4 8 rfl rfl)
theorem dX63_fits_102 : decode cX63_fits 102 = .ok (.iconst 0, 1) := dk_3 (dk_at dksX63_fits_4 11 rfl rfl)
theorem dX63_fits_103 : decode cX63_fits 103 = .ok (.ireturn, 1) := dk_172 (dk_at dksX63_fits_4 12 rfl rfl)
theorem dX63_fits_104 : decode cX63_fits 104 = .ok (.lload_n 1, 1) := dk_31 (dk_at dksX63_fits_4 13 rfl rfl)
theorem dX63_fits_105 : decode cX63_fits 105 = .ok (.lconst 0, 1) := dk_9 (dk_at dksX63_fits_4 14 rfl rfl)
theorem dX63_fits_106 : decode cX63_fits 106 = .ok (.lcmp, 1) := dk_148 (dk_at dksX63_fits_4 15 rfl rfl)
theorem dX63_fits_107 : decode cX63_fits 107 = .ok (.ifCond .lt 15, 3) := dk_155 0 15 (dk_at dksX63_fits_4 16 rfl rfl)
theorem dX63_fits_110 : decode cX63_fits 110 = .ok (.lload_n 1, 1) := dk_31 (dk_at dksX63_fits_4 19 rfl rfl)
theorem dX63_fits_111 : decode cX63_fits 111 = .ok (.ldc2_w 61, 3) := dk_20 0 61 (dk_at dksX63_fits_4 20 rfl rfl)
theorem dX63_fits_114 : decode cX63_fits 114 = .ok (.lcmp, 1) := dk_148 (dk_at dksX63_fits_4 23 rfl rfl)
theorem dX63_fits_115 : decode cX63_fits 115 = .ok (.ifCond .gt 7, 3) := dk_157 0 7 (dk_at dksX63_fits_5 0 rfl rfl)
theorem dX63_fits_118 : decode cX63_fits 118 = .ok (.iconst 1, 1) := dk_4 (dk_at dksX63_fits_5 3 rfl rfl)
theorem dX63_fits_119 : decode cX63_fits 119 = .ok (.goto 4, 3) := dk_167 0 4 (dk_at dksX63_fits_5 4 rfl rfl)
theorem dX63_fits_122 : decode cX63_fits 122 = .ok (.iconst 0, 1) := dk_3 (dk_at dksX63_fits_5 7 rfl rfl)
theorem dX63_fits_123 : decode cX63_fits 123 = .ok (.ireturn, 1) := dk_172 (dk_at dksX63_fits_5 8 rfl rfl)
theorem dX63_fits_124 : decode cX63_fits 124 = .ok (.lload_n 1, 1) := dk_31 (dk_at dksX63_fits_5 9 rfl rfl)
theorem dX63_fits_125 : decode cX63_fits 125 = .ok (.lconst 0, 1) := dk_9 (dk_at dksX63_fits_5 10 rfl rfl)
theorem dX63_fits_126 : decode cX63_fits 126 = .ok (.lcmp, 1) := dk_148 (dk_at dksX63_fits_5 11 rfl rfl)
theorem dX63_fits_127 : decode cX63_fits 127 = .ok (.ifCond .lt 15, 3) := dk_155 0 15 (dk_at dksX63_fits_5 12 rfl rfl)
theorem dX63_fits_130 : decode cX63_fits 130 = .ok (.lload_n 1, 1) := dk_31 (dk_at dksX63_fits_5 15 rfl rfl)
theorem dX63_fits_131 : decode cX63_fits 131 = .ok (.ldc2_w 63, 3) := dk_20 0 63 (dk_at dksX63_fits_5 16 rfl rfl)
theorem dX63_fits_134 : decode cX63_fits 134 = .ok (.lcmp, 1) := dk_148 (dk_at dksX63_fits_5 19 rfl rfl)
theorem dX63_fits_135 : decode cX63_fits 135 = .ok (.ifCond .ge 7, 3) := dk_156 0 7 (dk_at dksX63_fits_5 20 rfl rfl)
theorem dX63_fits_138 : decode cX63_fits 138 = .ok (.iconst 1, 1) := dk_4 (dk_at dksX63_fits_5 23 rfl rfl)
theorem dX63_fits_139 : decode cX63_fits 139 = .ok (.goto 4, 3) := dk_167 0 4 (dk_at dksX63_fits_6 0 rfl rfl)
theorem dX63_fits_142 : decode cX63_fits 142 = .ok (.iconst 0, 1) := dk_3 (dk_at dksX63_fits_6 3 rfl rfl)
theorem dX63_fits_143 : decode cX63_fits 143 = .ok (.ireturn, 1) := dk_172 (dk_at dksX63_fits_6 4 rfl rfl)
theorem dX63_fits_144 : decode cX63_fits 144 = .ok (.iconst 0, 1) := dk_3 (dk_at dksX63_fits_6 5 rfl rfl)
theorem dX63_fits_145 : decode cX63_fits 145 = .ok (.ireturn, 1) := dk_172 (dk_at dksX63_fits_6 6 rfl rfl)
abbrev cX63_init : ByteArray := prog_52_method_1_code
def yX63_init : MethodName := ⟨RX63, "<init>", "(I)V"⟩
def dkwX63_init_2 : List UInt8 := [133, 80, 177]
abbrev dktX63_init_2 : List UInt8 := dkwX63_init_2 ++ []
def dkwX63_init_1 : List UInt8 := [188, 11, 181, 0, 18, 42, 16, 8, 188, 11, 181, 0, 21, 42, 27, 181, 0, 24, 42, 180, 0, 9, 3, 27]
abbrev dktX63_init_1 : List UInt8 := dkwX63_init_1 ++ dktX63_init_2
def dkwX63_init_0 : List UInt8 := [42, 183, 0, 3, 42, 16, 9, 188, 11, 181, 0, 9, 42, 16, 8, 188, 11, 181, 0, 15, 42, 16, 8]
abbrev dktX63_init_0 : List UInt8 := dkwX63_init_0 ++ dktX63_init_1
theorem dksX63_init_0 : cX63_init.data.toList.drop 0 = dktX63_init_0 := by decide +kernel
theorem dksX63_init_1 : cX63_init.data.toList.drop 23 = dktX63_init_1 := dk_seg dksX63_init_0 23 rfl rfl
theorem dksX63_init_2 : cX63_init.data.toList.drop 47 = dktX63_init_2 := dk_seg dksX63_init_1 24 rfl rfl
theorem dX63_init_0 : decode cX63_init 0 = .ok (.aload_n 0, 1) := dk_42 (dk_at dksX63_init_0 0 rfl rfl)
theorem dX63_init_1 : decode cX63_init 1 = .ok (.invokespecial 3, 3) := dk_183 0 3 (dk_at dksX63_init_0 1 rfl rfl)
theorem dX63_init_4 : decode cX63_init 4 = .ok (.aload_n 0, 1) := dk_42 (dk_at dksX63_init_0 4 rfl rfl)
theorem dX63_init_5 : decode cX63_init 5 = .ok (.bipush 9, 2) := dk_16 9 (dk_at dksX63_init_0 5 rfl rfl)
theorem dX63_init_7 : decode cX63_init 7 = .ok (.newarray .long, 2) := dk_188_11 (dk_at dksX63_init_0 7 rfl rfl)
theorem dX63_init_9 : decode cX63_init 9 = .ok (.putfield 9, 3) := dk_181 0 9 (dk_at dksX63_init_0 9 rfl rfl)
theorem dX63_init_12 : decode cX63_init 12 = .ok (.aload_n 0, 1) := dk_42 (dk_at dksX63_init_0 12 rfl rfl)
theorem dX63_init_13 : decode cX63_init 13 = .ok (.bipush 8, 2) := dk_16 8 (dk_at dksX63_init_0 13 rfl rfl)
theorem dX63_init_15 : decode cX63_init 15 = .ok (.newarray .long, 2) := dk_188_11 (dk_at dksX63_init_0 15 rfl rfl)
theorem dX63_init_17 : decode cX63_init 17 = .ok (.putfield 15, 3) := dk_181 0 15 (dk_at dksX63_init_0 17 rfl rfl)
theorem dX63_init_20 : decode cX63_init 20 = .ok (.aload_n 0, 1) := dk_42 (dk_at dksX63_init_0 20 rfl rfl)
theorem dX63_init_21 : decode cX63_init 21 = .ok (.bipush 8, 2) := dk_16 8 (dk_at dksX63_init_0 21 rfl rfl)
theorem dX63_init_23 : decode cX63_init 23 = .ok (.newarray .long, 2) := dk_188_11 (dk_at dksX63_init_1 0 rfl rfl)
theorem dX63_init_25 : decode cX63_init 25 = .ok (.putfield 18, 3) := dk_181 0 18 (dk_at dksX63_init_1 2 rfl rfl)
theorem dX63_init_28 : decode cX63_init 28 = .ok (.aload_n 0, 1) := dk_42 (dk_at dksX63_init_1 5 rfl rfl)
theorem dX63_init_29 : decode cX63_init 29 = .ok (.bipush 8, 2) := dk_16 8 (dk_at dksX63_init_1 6 rfl rfl)
theorem dX63_init_31 : decode cX63_init 31 = .ok (.newarray .long, 2) := dk_188_11 (dk_at dksX63_init_1 8 rfl rfl)
theorem dX63_init_33 : decode cX63_init 33 = .ok (.putfield 21, 3) := dk_181 0 21 (dk_at dksX63_init_1 10 rfl rfl)
theorem dX63_init_36 : decode cX63_init 36 = .ok (.aload_n 0, 1) := dk_42 (dk_at dksX63_init_1 13 rfl rfl)
theorem dX63_init_37 : decode cX63_init 37 = .ok (.iload_n 1, 1) := dk_27 (dk_at dksX63_init_1 14 rfl rfl)
theorem dX63_init_38 : decode cX63_init 38 = .ok (.putfield 24, 3) := dk_181 0 24 (dk_at dksX63_init_1 15 rfl rfl)
theorem dX63_init_41 : decode cX63_init 41 = .ok (.aload_n 0, 1) := dk_42 (dk_at dksX63_init_1 18 rfl rfl)
theorem dX63_init_42 : decode cX63_init 42 = .ok (.getfield 9, 3) := dk_180 0 9 (dk_at dksX63_init_1 19 rfl rfl)
theorem dX63_init_45 : decode cX63_init 45 = .ok (.iconst 0, 1) := dk_3 (dk_at dksX63_init_1 22 rfl rfl)
theorem dX63_init_46 : decode cX63_init 46 = .ok (.iload_n 1, 1) := dk_27 (dk_at dksX63_init_1 23 rfl rfl)
theorem dX63_init_47 : decode cX63_init 47 = .ok (.i2l, 1) := dk_133 (dk_at dksX63_init_2 0 rfl rfl)
theorem dX63_init_48 : decode cX63_init 48 = .ok (.lastore, 1) := dk_80 (dk_at dksX63_init_2 1 rfl rfl)
theorem dX63_init_49 : decode cX63_init 49 = .ok (.return_, 1) := dk_177 (dk_at dksX63_init_2 2 rfl rfl)
abbrev cX63_set : ByteArray := prog_52_method_3_code
def yX63_set : MethodName := ⟨RX63, "set", "(IJ)V"⟩
def dkwX63_set_0 : List UInt8 := [42, 180, 0, 9, 27, 32, 80, 177]
abbrev dktX63_set_0 : List UInt8 := dkwX63_set_0 ++ []
theorem dksX63_set_0 : cX63_set.data.toList.drop 0 = dktX63_set_0 := by decide +kernel
theorem dX63_set_0 : decode cX63_set 0 = .ok (.aload_n 0, 1) := dk_42 (dk_at dksX63_set_0 0 rfl rfl)
theorem dX63_set_1 : decode cX63_set 1 = .ok (.getfield 9, 3) := dk_180 0 9 (dk_at dksX63_set_0 1 rfl rfl)
theorem dX63_set_4 : decode cX63_set 4 = .ok (.iload_n 1, 1) := dk_27 (dk_at dksX63_set_0 4 rfl rfl)
theorem dX63_set_5 : decode cX63_set 5 = .ok (.lload_n 2, 1) := dk_32 (dk_at dksX63_set_0 5 rfl rfl)
theorem dX63_set_6 : decode cX63_set 6 = .ok (.lastore, 1) := dk_80 (dk_at dksX63_set_0 6 rfl rfl)
theorem dX63_set_7 : decode cX63_set 7 = .ok (.return_, 1) := dk_177 (dk_at dksX63_set_0 7 rfl rfl)
abbrev cX63_get : ByteArray := prog_52_method_2_code
def yX63_get : MethodName := ⟨RX63, "get", "(I)J"⟩
def dkwX63_get_1 : List UInt8 := [180, 0, 9, 27, 47, 173]
abbrev dktX63_get_1 : List UInt8 := dkwX63_get_1 ++ []
def dkwX63_get_0 : List UInt8 := [27, 8, 160, 0, 19, 42, 180, 0, 9, 6, 47, 42, 180, 0, 9, 7, 47, 101, 167, 0, 9, 42]
abbrev dktX63_get_0 : List UInt8 := dkwX63_get_0 ++ dktX63_get_1
theorem dksX63_get_0 : cX63_get.data.toList.drop 0 = dktX63_get_0 := by decide +kernel
theorem dksX63_get_1 : cX63_get.data.toList.drop 22 = dktX63_get_1 := dk_seg dksX63_get_0 22 rfl rfl
theorem dX63_get_0 : decode cX63_get 0 = .ok (.iload_n 1, 1) := dk_27 (dk_at dksX63_get_0 0 rfl rfl)
theorem dX63_get_1 : decode cX63_get 1 = .ok (.iconst 5, 1) := dk_8 (dk_at dksX63_get_0 1 rfl rfl)
theorem dX63_get_2 : decode cX63_get 2 = .ok (.if_icmp .ne 19, 3) := dk_160 0 19 (dk_at dksX63_get_0 2 rfl rfl)
theorem dX63_get_5 : decode cX63_get 5 = .ok (.aload_n 0, 1) := dk_42 (dk_at dksX63_get_0 5 rfl rfl)
theorem dX63_get_6 : decode cX63_get 6 = .ok (.getfield 9, 3) := dk_180 0 9 (dk_at dksX63_get_0 6 rfl rfl)
theorem dX63_get_9 : decode cX63_get 9 = .ok (.iconst 3, 1) := dk_6 (dk_at dksX63_get_0 9 rfl rfl)
theorem dX63_get_10 : decode cX63_get 10 = .ok (.laload, 1) := dk_47 (dk_at dksX63_get_0 10 rfl rfl)
theorem dX63_get_11 : decode cX63_get 11 = .ok (.aload_n 0, 1) := dk_42 (dk_at dksX63_get_0 11 rfl rfl)
theorem dX63_get_12 : decode cX63_get 12 = .ok (.getfield 9, 3) := dk_180 0 9 (dk_at dksX63_get_0 12 rfl rfl)
theorem dX63_get_15 : decode cX63_get 15 = .ok (.iconst 4, 1) := dk_7 (dk_at dksX63_get_0 15 rfl rfl)
theorem dX63_get_16 : decode cX63_get 16 = .ok (.laload, 1) := dk_47 (dk_at dksX63_get_0 16 rfl rfl)
theorem dX63_get_17 : decode cX63_get 17 = .ok (.lsub, 1) := dk_101 (dk_at dksX63_get_0 17 rfl rfl)
theorem dX63_get_18 : decode cX63_get 18 = .ok (.goto 9, 3) := dk_167 0 9 (dk_at dksX63_get_0 18 rfl rfl)
theorem dX63_get_21 : decode cX63_get 21 = .ok (.aload_n 0, 1) := dk_42 (dk_at dksX63_get_0 21 rfl rfl)
theorem dX63_get_22 : decode cX63_get 22 = .ok (.getfield 9, 3) := dk_180 0 9 (dk_at dksX63_get_1 0 rfl rfl)
theorem dX63_get_25 : decode cX63_get 25 = .ok (.iload_n 1, 1) := dk_27 (dk_at dksX63_get_1 3 rfl rfl)
theorem dX63_get_26 : decode cX63_get 26 = .ok (.laload, 1) := dk_47 (dk_at dksX63_get_1 4 rfl rfl)
theorem dX63_get_27 : decode cX63_get 27 = .ok (.lreturn, 1) := dk_173 (dk_at dksX63_get_1 5 rfl rfl)
abbrev cX63_divide : ByteArray := prog_52_method_6_code
def yX63_divide : MethodName := ⟨RX63, "divide", "()Z"⟩
def dkwX63_divide_8 : List UInt8 := [92, 47, 10, 97, 80, 42, 180, 0, 21, 21, 7, 9, 80, 22, 5, 10, 101, 55, 5, 167, 255, 178, 4, 172]
abbrev dktX63_divide_8 : List UInt8 := dkwX63_divide_8 ++ []
def dkwX63_divide_7 : List UInt8 := [158, 0, 8, 21, 8, 167, 0, 5, 21, 7, 54, 7, 132, 8, 1, 167, 255, 219, 42, 180, 0, 18, 21, 7]
abbrev dktX63_divide_7 : List UInt8 := dkwX63_divide_7 ++ dktX63_divide_8
def dkwX63_divide_6 : List UInt8 := [54, 8, 21, 8, 16, 8, 162, 0, 36, 42, 180, 0, 21, 21, 8, 47, 42, 180, 0, 21, 21, 7, 47, 148]
abbrev dktX63_divide_6 : List UInt8 := dkwX63_divide_6 ++ dktX63_divide_7
def dkwX63_divide_5 : List UInt8 := [21, 7, 47, 101, 55, 5, 132, 7, 1, 167, 255, 198, 22, 5, 9, 148, 158, 0, 77, 3, 54, 7, 4]
abbrev dktX63_divide_5 : List UInt8 := dkwX63_divide_5 ++ dktX63_divide_6
def dkwX63_divide_4 : List UInt8 := [180, 0, 21, 21, 7, 33, 42, 180, 0, 15, 21, 7, 47, 105, 31, 113, 80, 22, 5, 42, 180, 0, 18]
abbrev dktX63_divide_4 : List UInt8 := dkwX63_divide_4 ++ dktX63_divide_5
def dkwX63_divide_3 : List UInt8 := [16, 8, 162, 0, 57, 42, 180, 0, 18, 21, 7, 33, 42, 180, 0, 15, 21, 7, 47, 105, 31, 109, 80, 42]
abbrev dktX63_divide_3 : List UInt8 := dkwX63_divide_3 ++ dktX63_divide_4
def dkwX63_divide_2 : List UInt8 := [182, 0, 28, 153, 0, 7, 9, 167, 0, 8, 42, 8, 182, 0, 32, 66, 33, 55, 5, 3, 54, 7, 21, 7]
abbrev dktX63_divide_2 : List UInt8 := dkwX63_divide_2 ++ dktX63_divide_3
def dkwX63_divide_1 : List UInt8 := [47, 55, 6, 31, 22, 6, 97, 64, 132, 5, 1, 167, 255, 235, 31, 9, 148, 154, 0, 5, 3, 172, 42]
abbrev dktX63_divide_1 : List UInt8 := dkwX63_divide_1 ++ dktX63_divide_2
def dkwX63_divide_0 : List UInt8 := [9, 64, 42, 180, 0, 15, 78, 45, 190, 54, 4, 3, 54, 5, 21, 5, 21, 4, 162, 0, 20, 45, 21, 5]
abbrev dktX63_divide_0 : List UInt8 := dkwX63_divide_0 ++ dktX63_divide_1
theorem dksX63_divide_0 : cX63_divide.data.toList.drop 0 = dktX63_divide_0 := by decide +kernel
theorem dksX63_divide_1 : cX63_divide.data.toList.drop 24 = dktX63_divide_1 := dk_seg dksX63_divide_0 24 rfl rfl
theorem dksX63_divide_2 : cX63_divide.data.toList.drop 47 = dktX63_divide_2 := dk_seg dksX63_divide_1 23 rfl rfl
theorem dksX63_divide_3 : cX63_divide.data.toList.drop 71 = dktX63_divide_3 := dk_seg dksX63_divide_2 24 rfl rfl
theorem dksX63_divide_4 : cX63_divide.data.toList.drop 95 = dktX63_divide_4 := dk_seg dksX63_divide_3 24 rfl rfl
theorem dksX63_divide_5 : cX63_divide.data.toList.drop 118 = dktX63_divide_5 := dk_seg dksX63_divide_4 23 rfl rfl
theorem dksX63_divide_6 : cX63_divide.data.toList.drop 141 = dktX63_divide_6 := dk_seg dksX63_divide_5 23 rfl rfl
theorem dksX63_divide_7 : cX63_divide.data.toList.drop 165 = dktX63_divide_7 := dk_seg dksX63_divide_6 24 rfl rfl
theorem dksX63_divide_8 : cX63_divide.data.toList.drop 189 = dktX63_divide_8 := dk_seg dksX63_divide_7 24 rfl rfl
theorem dX63_divide_0 : decode cX63_divide 0 = .ok (.lconst 0, 1) := dk_9 (dk_at dksX63_divide_0 0 rfl rfl)
theorem dX63_divide_1 : decode cX63_divide 1 = .ok (.lstore_n 1, 1) := dk_64 (dk_at dksX63_divide_0 1 rfl rfl)
theorem dX63_divide_2 : decode cX63_divide 2 = .ok (.aload_n 0, 1) := dk_42 (dk_at dksX63_divide_0 2 rfl rfl)
theorem dX63_divide_3 : decode cX63_divide 3 = .ok (.getfield 15, 3) := dk_180 0 15 (dk_at dksX63_divide_0 3 rfl rfl)
theorem dX63_divide_6 : decode cX63_divide 6 = .ok (.astore_n 3, 1) := dk_78 (dk_at dksX63_divide_0 6 rfl rfl)
theorem dX63_divide_7 : decode cX63_divide 7 = .ok (.aload_n 3, 1) := dk_45 (dk_at dksX63_divide_0 7 rfl rfl)
theorem dX63_divide_8 : decode cX63_divide 8 = .ok (.arraylength, 1) := dk_190 (dk_at dksX63_divide_0 8 rfl rfl)
theorem dX63_divide_9 : decode cX63_divide 9 = .ok (.istore 4, 2) := dk_54 4 (dk_at dksX63_divide_0 9 rfl rfl)
theorem dX63_divide_11 : decode cX63_divide 11 = .ok (.iconst 0, 1) := dk_3 (dk_at dksX63_divide_0 11 rfl rfl)
theorem dX63_divide_12 : decode cX63_divide 12 = .ok (.istore 5, 2) := dk_54 5 (dk_at dksX63_divide_0 12 rfl rfl)
theorem dX63_divide_14 : decode cX63_divide 14 = .ok (.iload 5, 2) := dk_21 5 (dk_at dksX63_divide_0 14 rfl rfl)
theorem dX63_divide_16 : decode cX63_divide 16 = .ok (.iload 4, 2) := dk_21 4 (dk_at dksX63_divide_0 16 rfl rfl)
theorem dX63_divide_18 : decode cX63_divide 18 = .ok (.if_icmp .ge 20, 3) := dk_162 0 20 (dk_at dksX63_divide_0 18 rfl rfl)
theorem dX63_divide_21 : decode cX63_divide 21 = .ok (.aload_n 3, 1) := dk_45 (dk_at dksX63_divide_0 21 rfl rfl)
theorem dX63_divide_22 : decode cX63_divide 22 = .ok (.iload 5, 2) := dk_21 5 (dk_at dksX63_divide_0 22 rfl rfl)
theorem dX63_divide_24 : decode cX63_divide 24 = .ok (.laload, 1) := dk_47 (dk_at dksX63_divide_1 0 rfl rfl)
theorem dX63_divide_25 : decode cX63_divide 25 = .ok (.lstore 6, 2) := dk_55 6 (dk_at dksX63_divide_1 1 rfl rfl)
theorem dX63_divide_27 : decode cX63_divide 27 = .ok (.lload_n 1, 1) := dk_31 (dk_at dksX63_divide_1 3 rfl rfl)
theorem dX63_divide_28 : decode cX63_divide 28 = .ok (.lload 6, 2) := dk_22 6 (dk_at dksX63_divide_1 4 rfl rfl)
theorem dX63_divide_30 : decode cX63_divide 30 = .ok (.ladd, 1) := dk_97 (dk_at dksX63_divide_1 6 rfl rfl)
theorem dX63_divide_31 : decode cX63_divide 31 = .ok (.lstore_n 1, 1) := dk_64 (dk_at dksX63_divide_1 7 rfl rfl)
theorem dX63_divide_32 : decode cX63_divide 32 = .ok (.iinc 5 1, 3) := dk_132 5 1 (dk_at dksX63_divide_1 8 rfl rfl)
theorem dX63_divide_35 : decode cX63_divide 35 = .ok (.goto (-21), 3) := dk_167 255 235 (dk_at dksX63_divide_1 11 rfl rfl)
theorem dX63_divide_38 : decode cX63_divide 38 = .ok (.lload_n 1, 1) := dk_31 (dk_at dksX63_divide_1 14 rfl rfl)
theorem dX63_divide_39 : decode cX63_divide 39 = .ok (.lconst 0, 1) := dk_9 (dk_at dksX63_divide_1 15 rfl rfl)
theorem dX63_divide_40 : decode cX63_divide 40 = .ok (.lcmp, 1) := dk_148 (dk_at dksX63_divide_1 16 rfl rfl)
theorem dX63_divide_41 : decode cX63_divide 41 = .ok (.ifCond .ne 5, 3) := dk_154 0 5 (dk_at dksX63_divide_1 17 rfl rfl)
theorem dX63_divide_44 : decode cX63_divide 44 = .ok (.iconst 0, 1) := dk_3 (dk_at dksX63_divide_1 20 rfl rfl)
theorem dX63_divide_45 : decode cX63_divide 45 = .ok (.ireturn, 1) := dk_172 (dk_at dksX63_divide_1 21 rfl rfl)
theorem dX63_divide_46 : decode cX63_divide 46 = .ok (.aload_n 0, 1) := dk_42 (dk_at dksX63_divide_1 22 rfl rfl)
theorem dX63_divide_47 : decode cX63_divide 47 = .ok (.invokevirtual 28, 3) := dk_182 0 28 (dk_at dksX63_divide_2 0 rfl rfl)
theorem dX63_divide_50 : decode cX63_divide 50 = .ok (.ifCond .eq 7, 3) := dk_153 0 7 (dk_at dksX63_divide_2 3 rfl rfl)
theorem dX63_divide_53 : decode cX63_divide 53 = .ok (.lconst 0, 1) := dk_9 (dk_at dksX63_divide_2 6 rfl rfl)
theorem dX63_divide_54 : decode cX63_divide 54 = .ok (.goto 8, 3) := dk_167 0 8 (dk_at dksX63_divide_2 7 rfl rfl)
theorem dX63_divide_57 : decode cX63_divide 57 = .ok (.aload_n 0, 1) := dk_42 (dk_at dksX63_divide_2 10 rfl rfl)
theorem dX63_divide_58 : decode cX63_divide 58 = .ok (.iconst 5, 1) := dk_8 (dk_at dksX63_divide_2 11 rfl rfl)
theorem dX63_divide_59 : decode cX63_divide 59 = .ok (.invokevirtual 32, 3) := dk_182 0 32 (dk_at dksX63_divide_2 12 rfl rfl)
theorem dX63_divide_62 : decode cX63_divide 62 = .ok (.lstore_n 3, 1) := dk_66 (dk_at dksX63_divide_2 15 rfl rfl)
theorem dX63_divide_63 : decode cX63_divide 63 = .ok (.lload_n 3, 1) := dk_33 (dk_at dksX63_divide_2 16 rfl rfl)
theorem dX63_divide_64 : decode cX63_divide 64 = .ok (.lstore 5, 2) := dk_55 5 (dk_at dksX63_divide_2 17 rfl rfl)
theorem dX63_divide_66 : decode cX63_divide 66 = .ok (.iconst 0, 1) := dk_3 (dk_at dksX63_divide_2 19 rfl rfl)
theorem dX63_divide_67 : decode cX63_divide 67 = .ok (.istore 7, 2) := dk_54 7 (dk_at dksX63_divide_2 20 rfl rfl)
theorem dX63_divide_69 : decode cX63_divide 69 = .ok (.iload 7, 2) := dk_21 7 (dk_at dksX63_divide_2 22 rfl rfl)
theorem dX63_divide_71 : decode cX63_divide 71 = .ok (.bipush 8, 2) := dk_16 8 (dk_at dksX63_divide_3 0 rfl rfl)
theorem dX63_divide_73 : decode cX63_divide 73 = .ok (.if_icmp .ge 57, 3) := dk_162 0 57 (dk_at dksX63_divide_3 2 rfl rfl)
theorem dX63_divide_76 : decode cX63_divide 76 = .ok (.aload_n 0, 1) := dk_42 (dk_at dksX63_divide_3 5 rfl rfl)
theorem dX63_divide_77 : decode cX63_divide 77 = .ok (.getfield 18, 3) := dk_180 0 18 (dk_at dksX63_divide_3 6 rfl rfl)
theorem dX63_divide_80 : decode cX63_divide 80 = .ok (.iload 7, 2) := dk_21 7 (dk_at dksX63_divide_3 9 rfl rfl)
theorem dX63_divide_82 : decode cX63_divide 82 = .ok (.lload_n 3, 1) := dk_33 (dk_at dksX63_divide_3 11 rfl rfl)
theorem dX63_divide_83 : decode cX63_divide 83 = .ok (.aload_n 0, 1) := dk_42 (dk_at dksX63_divide_3 12 rfl rfl)
theorem dX63_divide_84 : decode cX63_divide 84 = .ok (.getfield 15, 3) := dk_180 0 15 (dk_at dksX63_divide_3 13 rfl rfl)
theorem dX63_divide_87 : decode cX63_divide 87 = .ok (.iload 7, 2) := dk_21 7 (dk_at dksX63_divide_3 16 rfl rfl)
theorem dX63_divide_89 : decode cX63_divide 89 = .ok (.laload, 1) := dk_47 (dk_at dksX63_divide_3 18 rfl rfl)
theorem dX63_divide_90 : decode cX63_divide 90 = .ok (.lmul, 1) := dk_105 (dk_at dksX63_divide_3 19 rfl rfl)
theorem dX63_divide_91 : decode cX63_divide 91 = .ok (.lload_n 1, 1) := dk_31 (dk_at dksX63_divide_3 20 rfl rfl)
theorem dX63_divide_92 : decode cX63_divide 92 = .ok (.ldiv, 1) := dk_109 (dk_at dksX63_divide_3 21 rfl rfl)
theorem dX63_divide_93 : decode cX63_divide 93 = .ok (.lastore, 1) := dk_80 (dk_at dksX63_divide_3 22 rfl rfl)
theorem dX63_divide_94 : decode cX63_divide 94 = .ok (.aload_n 0, 1) := dk_42 (dk_at dksX63_divide_3 23 rfl rfl)
theorem dX63_divide_95 : decode cX63_divide 95 = .ok (.getfield 21, 3) := dk_180 0 21 (dk_at dksX63_divide_4 0 rfl rfl)
theorem dX63_divide_98 : decode cX63_divide 98 = .ok (.iload 7, 2) := dk_21 7 (dk_at dksX63_divide_4 3 rfl rfl)
theorem dX63_divide_100 : decode cX63_divide 100 = .ok (.lload_n 3, 1) := dk_33 (dk_at dksX63_divide_4 5 rfl rfl)
theorem dX63_divide_101 : decode cX63_divide 101 = .ok (.aload_n 0, 1) := dk_42 (dk_at dksX63_divide_4 6 rfl rfl)
theorem dX63_divide_102 : decode cX63_divide 102 = .ok (.getfield 15, 3) := dk_180 0 15 (dk_at dksX63_divide_4 7 rfl rfl)
theorem dX63_divide_105 : decode cX63_divide 105 = .ok (.iload 7, 2) := dk_21 7 (dk_at dksX63_divide_4 10 rfl rfl)
theorem dX63_divide_107 : decode cX63_divide 107 = .ok (.laload, 1) := dk_47 (dk_at dksX63_divide_4 12 rfl rfl)
theorem dX63_divide_108 : decode cX63_divide 108 = .ok (.lmul, 1) := dk_105 (dk_at dksX63_divide_4 13 rfl rfl)
theorem dX63_divide_109 : decode cX63_divide 109 = .ok (.lload_n 1, 1) := dk_31 (dk_at dksX63_divide_4 14 rfl rfl)
theorem dX63_divide_110 : decode cX63_divide 110 = .ok (.lrem, 1) := dk_113 (dk_at dksX63_divide_4 15 rfl rfl)
theorem dX63_divide_111 : decode cX63_divide 111 = .ok (.lastore, 1) := dk_80 (dk_at dksX63_divide_4 16 rfl rfl)
theorem dX63_divide_112 : decode cX63_divide 112 = .ok (.lload 5, 2) := dk_22 5 (dk_at dksX63_divide_4 17 rfl rfl)
theorem dX63_divide_114 : decode cX63_divide 114 = .ok (.aload_n 0, 1) := dk_42 (dk_at dksX63_divide_4 19 rfl rfl)
theorem dX63_divide_115 : decode cX63_divide 115 = .ok (.getfield 18, 3) := dk_180 0 18 (dk_at dksX63_divide_4 20 rfl rfl)
theorem dX63_divide_118 : decode cX63_divide 118 = .ok (.iload 7, 2) := dk_21 7 (dk_at dksX63_divide_5 0 rfl rfl)
theorem dX63_divide_120 : decode cX63_divide 120 = .ok (.laload, 1) := dk_47 (dk_at dksX63_divide_5 2 rfl rfl)
theorem dX63_divide_121 : decode cX63_divide 121 = .ok (.lsub, 1) := dk_101 (dk_at dksX63_divide_5 3 rfl rfl)
theorem dX63_divide_122 : decode cX63_divide 122 = .ok (.lstore 5, 2) := dk_55 5 (dk_at dksX63_divide_5 4 rfl rfl)
theorem dX63_divide_124 : decode cX63_divide 124 = .ok (.iinc 7 1, 3) := dk_132 7 1 (dk_at dksX63_divide_5 6 rfl rfl)
theorem dX63_divide_127 : decode cX63_divide 127 = .ok (.goto (-58), 3) := dk_167 255 198 (dk_at dksX63_divide_5 9 rfl rfl)
theorem dX63_divide_130 : decode cX63_divide 130 = .ok (.lload 5, 2) := dk_22 5 (dk_at dksX63_divide_5 12 rfl rfl)
theorem dX63_divide_132 : decode cX63_divide 132 = .ok (.lconst 0, 1) := dk_9 (dk_at dksX63_divide_5 14 rfl rfl)
theorem dX63_divide_133 : decode cX63_divide 133 = .ok (.lcmp, 1) := dk_148 (dk_at dksX63_divide_5 15 rfl rfl)
theorem dX63_divide_134 : decode cX63_divide 134 = .ok (.ifCond .le 77, 3) := dk_158 0 77 (dk_at dksX63_divide_5 16 rfl rfl)
theorem dX63_divide_137 : decode cX63_divide 137 = .ok (.iconst 0, 1) := dk_3 (dk_at dksX63_divide_5 19 rfl rfl)
theorem dX63_divide_138 : decode cX63_divide 138 = .ok (.istore 7, 2) := dk_54 7 (dk_at dksX63_divide_5 20 rfl rfl)
theorem dX63_divide_140 : decode cX63_divide 140 = .ok (.iconst 1, 1) := dk_4 (dk_at dksX63_divide_5 22 rfl rfl)
theorem dX63_divide_141 : decode cX63_divide 141 = .ok (.istore 8, 2) := dk_54 8 (dk_at dksX63_divide_6 0 rfl rfl)
theorem dX63_divide_143 : decode cX63_divide 143 = .ok (.iload 8, 2) := dk_21 8 (dk_at dksX63_divide_6 2 rfl rfl)
theorem dX63_divide_145 : decode cX63_divide 145 = .ok (.bipush 8, 2) := dk_16 8 (dk_at dksX63_divide_6 4 rfl rfl)
theorem dX63_divide_147 : decode cX63_divide 147 = .ok (.if_icmp .ge 36, 3) := dk_162 0 36 (dk_at dksX63_divide_6 6 rfl rfl)
theorem dX63_divide_150 : decode cX63_divide 150 = .ok (.aload_n 0, 1) := dk_42 (dk_at dksX63_divide_6 9 rfl rfl)
theorem dX63_divide_151 : decode cX63_divide 151 = .ok (.getfield 21, 3) := dk_180 0 21 (dk_at dksX63_divide_6 10 rfl rfl)
theorem dX63_divide_154 : decode cX63_divide 154 = .ok (.iload 8, 2) := dk_21 8 (dk_at dksX63_divide_6 13 rfl rfl)
theorem dX63_divide_156 : decode cX63_divide 156 = .ok (.laload, 1) := dk_47 (dk_at dksX63_divide_6 15 rfl rfl)
theorem dX63_divide_157 : decode cX63_divide 157 = .ok (.aload_n 0, 1) := dk_42 (dk_at dksX63_divide_6 16 rfl rfl)
theorem dX63_divide_158 : decode cX63_divide 158 = .ok (.getfield 21, 3) := dk_180 0 21 (dk_at dksX63_divide_6 17 rfl rfl)
theorem dX63_divide_161 : decode cX63_divide 161 = .ok (.iload 7, 2) := dk_21 7 (dk_at dksX63_divide_6 20 rfl rfl)
theorem dX63_divide_163 : decode cX63_divide 163 = .ok (.laload, 1) := dk_47 (dk_at dksX63_divide_6 22 rfl rfl)
theorem dX63_divide_164 : decode cX63_divide 164 = .ok (.lcmp, 1) := dk_148 (dk_at dksX63_divide_6 23 rfl rfl)
theorem dX63_divide_165 : decode cX63_divide 165 = .ok (.ifCond .le 8, 3) := dk_158 0 8 (dk_at dksX63_divide_7 0 rfl rfl)
theorem dX63_divide_168 : decode cX63_divide 168 = .ok (.iload 8, 2) := dk_21 8 (dk_at dksX63_divide_7 3 rfl rfl)
theorem dX63_divide_170 : decode cX63_divide 170 = .ok (.goto 5, 3) := dk_167 0 5 (dk_at dksX63_divide_7 5 rfl rfl)
theorem dX63_divide_173 : decode cX63_divide 173 = .ok (.iload 7, 2) := dk_21 7 (dk_at dksX63_divide_7 8 rfl rfl)
theorem dX63_divide_175 : decode cX63_divide 175 = .ok (.istore 7, 2) := dk_54 7 (dk_at dksX63_divide_7 10 rfl rfl)
theorem dX63_divide_177 : decode cX63_divide 177 = .ok (.iinc 8 1, 3) := dk_132 8 1 (dk_at dksX63_divide_7 12 rfl rfl)
theorem dX63_divide_180 : decode cX63_divide 180 = .ok (.goto (-37), 3) := dk_167 255 219 (dk_at dksX63_divide_7 15 rfl rfl)
theorem dX63_divide_183 : decode cX63_divide 183 = .ok (.aload_n 0, 1) := dk_42 (dk_at dksX63_divide_7 18 rfl rfl)
theorem dX63_divide_184 : decode cX63_divide 184 = .ok (.getfield 18, 3) := dk_180 0 18 (dk_at dksX63_divide_7 19 rfl rfl)
theorem dX63_divide_187 : decode cX63_divide 187 = .ok (.iload 7, 2) := dk_21 7 (dk_at dksX63_divide_7 22 rfl rfl)
theorem dX63_divide_189 : decode cX63_divide 189 = .ok (.dup2, 1) := dk_92 (dk_at dksX63_divide_8 0 rfl rfl)
theorem dX63_divide_190 : decode cX63_divide 190 = .ok (.laload, 1) := dk_47 (dk_at dksX63_divide_8 1 rfl rfl)
theorem dX63_divide_191 : decode cX63_divide 191 = .ok (.lconst 1, 1) := dk_10 (dk_at dksX63_divide_8 2 rfl rfl)
theorem dX63_divide_192 : decode cX63_divide 192 = .ok (.ladd, 1) := dk_97 (dk_at dksX63_divide_8 3 rfl rfl)
theorem dX63_divide_193 : decode cX63_divide 193 = .ok (.lastore, 1) := dk_80 (dk_at dksX63_divide_8 4 rfl rfl)
theorem dX63_divide_194 : decode cX63_divide 194 = .ok (.aload_n 0, 1) := dk_42 (dk_at dksX63_divide_8 5 rfl rfl)
theorem dX63_divide_195 : decode cX63_divide 195 = .ok (.getfield 21, 3) := dk_180 0 21 (dk_at dksX63_divide_8 6 rfl rfl)
theorem dX63_divide_198 : decode cX63_divide 198 = .ok (.iload 7, 2) := dk_21 7 (dk_at dksX63_divide_8 9 rfl rfl)
theorem dX63_divide_200 : decode cX63_divide 200 = .ok (.lconst 0, 1) := dk_9 (dk_at dksX63_divide_8 11 rfl rfl)
theorem dX63_divide_201 : decode cX63_divide 201 = .ok (.lastore, 1) := dk_80 (dk_at dksX63_divide_8 12 rfl rfl)
theorem dX63_divide_202 : decode cX63_divide 202 = .ok (.lload 5, 2) := dk_22 5 (dk_at dksX63_divide_8 13 rfl rfl)
theorem dX63_divide_204 : decode cX63_divide 204 = .ok (.lconst 1, 1) := dk_10 (dk_at dksX63_divide_8 15 rfl rfl)
theorem dX63_divide_205 : decode cX63_divide 205 = .ok (.lsub, 1) := dk_101 (dk_at dksX63_divide_8 16 rfl rfl)
theorem dX63_divide_206 : decode cX63_divide 206 = .ok (.lstore 5, 2) := dk_55 5 (dk_at dksX63_divide_8 17 rfl rfl)
theorem dX63_divide_208 : decode cX63_divide 208 = .ok (.goto (-78), 3) := dk_167 255 178 (dk_at dksX63_divide_8 19 rfl rfl)
theorem dX63_divide_211 : decode cX63_divide 211 = .ok (.iconst 1, 1) := dk_4 (dk_at dksX63_divide_8 22 rfl rfl)
theorem dX63_divide_212 : decode cX63_divide 212 = .ok (.ireturn, 1) := dk_172 (dk_at dksX63_divide_8 23 rfl rfl)
abbrev cX63_isVoid : ByteArray := prog_52_method_4_code
def yX63_isVoid : MethodName := ⟨RX63, "isVoid", "()Z"⟩
def dkwX63_isVoid_0 : List UInt8 := [42, 180, 0, 9, 16, 8, 47, 9, 148, 158, 0, 7, 4, 167, 0, 4, 3, 172]
abbrev dktX63_isVoid_0 : List UInt8 := dkwX63_isVoid_0 ++ []
theorem dksX63_isVoid_0 : cX63_isVoid.data.toList.drop 0 = dktX63_isVoid_0 := by decide +kernel
theorem dX63_isVoid_0 : decode cX63_isVoid 0 = .ok (.aload_n 0, 1) := dk_42 (dk_at dksX63_isVoid_0 0 rfl rfl)
theorem dX63_isVoid_1 : decode cX63_isVoid 1 = .ok (.getfield 9, 3) := dk_180 0 9 (dk_at dksX63_isVoid_0 1 rfl rfl)
theorem dX63_isVoid_4 : decode cX63_isVoid 4 = .ok (.bipush 8, 2) := dk_16 8 (dk_at dksX63_isVoid_0 4 rfl rfl)
theorem dX63_isVoid_6 : decode cX63_isVoid 6 = .ok (.laload, 1) := dk_47 (dk_at dksX63_isVoid_0 6 rfl rfl)
theorem dX63_isVoid_7 : decode cX63_isVoid 7 = .ok (.lconst 0, 1) := dk_9 (dk_at dksX63_isVoid_0 7 rfl rfl)
theorem dX63_isVoid_8 : decode cX63_isVoid 8 = .ok (.lcmp, 1) := dk_148 (dk_at dksX63_isVoid_0 8 rfl rfl)
theorem dX63_isVoid_9 : decode cX63_isVoid 9 = .ok (.ifCond .le 7, 3) := dk_158 0 7 (dk_at dksX63_isVoid_0 9 rfl rfl)
theorem dX63_isVoid_12 : decode cX63_isVoid 12 = .ok (.iconst 1, 1) := dk_4 (dk_at dksX63_isVoid_0 12 rfl rfl)
theorem dX63_isVoid_13 : decode cX63_isVoid 13 = .ok (.goto 4, 3) := dk_167 0 4 (dk_at dksX63_isVoid_0 13 rfl rfl)
theorem dX63_isVoid_16 : decode cX63_isVoid 16 = .ok (.iconst 0, 1) := dk_3 (dk_at dksX63_isVoid_0 16 rfl rfl)
theorem dX63_isVoid_17 : decode cX63_isVoid 17 = .ok (.ireturn, 1) := dk_172 (dk_at dksX63_isVoid_0 17 rfl rfl)
abbrev cX63_share : ByteArray := prog_52_method_7_code
def yX63_share : MethodName := ⟨RX63, "share", "(I)J"⟩
def dkwX63_share_0 : List UInt8 := [42, 180, 0, 18, 27, 47, 173]
abbrev dktX63_share_0 : List UInt8 := dkwX63_share_0 ++ []
theorem dksX63_share_0 : cX63_share.data.toList.drop 0 = dktX63_share_0 := by decide +kernel
theorem dX63_share_0 : decode cX63_share 0 = .ok (.aload_n 0, 1) := dk_42 (dk_at dksX63_share_0 0 rfl rfl)
theorem dX63_share_1 : decode cX63_share 1 = .ok (.getfield 18, 3) := dk_180 0 18 (dk_at dksX63_share_0 1 rfl rfl)
theorem dX63_share_4 : decode cX63_share 4 = .ok (.iload_n 1, 1) := dk_27 (dk_at dksX63_share_0 4 rfl rfl)
theorem dX63_share_5 : decode cX63_share 5 = .ok (.laload, 1) := dk_47 (dk_at dksX63_share_0 5 rfl rfl)
theorem dX63_share_6 : decode cX63_share 6 = .ok (.lreturn, 1) := dk_173 (dk_at dksX63_share_0 6 rfl rfl)
abbrev cX63_part : ByteArray := prog_52_method_5_code
def yX63_part : MethodName := ⟨RX63, "part", "(IJ)V"⟩
def dkwX63_part_0 : List UInt8 := [42, 180, 0, 15, 27, 32, 80, 177]
abbrev dktX63_part_0 : List UInt8 := dkwX63_part_0 ++ []
theorem dksX63_part_0 : cX63_part.data.toList.drop 0 = dktX63_part_0 := by decide +kernel
theorem dX63_part_0 : decode cX63_part 0 = .ok (.aload_n 0, 1) := dk_42 (dk_at dksX63_part_0 0 rfl rfl)
theorem dX63_part_1 : decode cX63_part 1 = .ok (.getfield 15, 3) := dk_180 0 15 (dk_at dksX63_part_0 1 rfl rfl)
theorem dX63_part_4 : decode cX63_part 4 = .ok (.iload_n 1, 1) := dk_27 (dk_at dksX63_part_0 4 rfl rfl)
theorem dX63_part_5 : decode cX63_part 5 = .ok (.lload_n 2, 1) := dk_32 (dk_at dksX63_part_0 5 rfl rfl)
theorem dX63_part_6 : decode cX63_part 6 = .ok (.lastore, 1) := dk_80 (dk_at dksX63_part_0 6 rfl rfl)
theorem dX63_part_7 : decode cX63_part 7 = .ok (.return_, 1) := dk_177 (dk_at dksX63_part_0 7 rfl rfl)
abbrev cX63_form : ByteArray := prog_52_method_8_code
def yX63_form : MethodName := ⟨RX63, "form", "()Ljava/lang/String;"⟩
def dkwX63_form_3 : List UInt8 := [176]
abbrev dktX63_form_3 : List UInt8 := dkwX63_form_3 ++ []
def dkwX63_form_2 : List UInt8 := [153, 0, 20, 43, 18, 46, 182, 0, 48, 42, 180, 0, 9, 16, 8, 47, 182, 0, 43, 87, 43, 182, 0, 51]
abbrev dktX63_form_2 : List UInt8 := dkwX63_form_2 ++ dktX63_form_3
def dkwX63_form_1 : List UInt8 := [182, 0, 39, 87, 43, 42, 28, 182, 0, 32, 182, 0, 43, 87, 132, 2, 1, 167, 255, 226, 42, 182, 0, 28]
abbrev dktX63_form_1 : List UInt8 := dkwX63_form_1 ++ dktX63_form_2
def dkwX63_form_0 : List UInt8 := [187, 0, 36, 89, 183, 0, 38, 76, 3, 61, 28, 16, 7, 163, 0, 30, 28, 158, 0, 10, 43, 16, 32]
abbrev dktX63_form_0 : List UInt8 := dkwX63_form_0 ++ dktX63_form_1
theorem dksX63_form_0 : cX63_form.data.toList.drop 0 = dktX63_form_0 := by decide +kernel
theorem dksX63_form_1 : cX63_form.data.toList.drop 23 = dktX63_form_1 := dk_seg dksX63_form_0 23 rfl rfl
theorem dksX63_form_2 : cX63_form.data.toList.drop 47 = dktX63_form_2 := dk_seg dksX63_form_1 24 rfl rfl
theorem dksX63_form_3 : cX63_form.data.toList.drop 71 = dktX63_form_3 := dk_seg dksX63_form_2 24 rfl rfl
theorem dX63_form_0 : decode cX63_form 0 = .ok (.new 36, 3) := dk_187 0 36 (dk_at dksX63_form_0 0 rfl rfl)
theorem dX63_form_3 : decode cX63_form 3 = .ok (.dup, 1) := dk_89 (dk_at dksX63_form_0 3 rfl rfl)
theorem dX63_form_4 : decode cX63_form 4 = .ok (.invokespecial 38, 3) := dk_183 0 38 (dk_at dksX63_form_0 4 rfl rfl)
theorem dX63_form_7 : decode cX63_form 7 = .ok (.astore_n 1, 1) := dk_76 (dk_at dksX63_form_0 7 rfl rfl)
theorem dX63_form_8 : decode cX63_form 8 = .ok (.iconst 0, 1) := dk_3 (dk_at dksX63_form_0 8 rfl rfl)
theorem dX63_form_9 : decode cX63_form 9 = .ok (.istore_n 2, 1) := dk_61 (dk_at dksX63_form_0 9 rfl rfl)
theorem dX63_form_10 : decode cX63_form 10 = .ok (.iload_n 2, 1) := dk_28 (dk_at dksX63_form_0 10 rfl rfl)
theorem dX63_form_11 : decode cX63_form 11 = .ok (.bipush 7, 2) := dk_16 7 (dk_at dksX63_form_0 11 rfl rfl)
theorem dX63_form_13 : decode cX63_form 13 = .ok (.if_icmp .gt 30, 3) := dk_163 0 30 (dk_at dksX63_form_0 13 rfl rfl)
theorem dX63_form_16 : decode cX63_form 16 = .ok (.iload_n 2, 1) := dk_28 (dk_at dksX63_form_0 16 rfl rfl)
theorem dX63_form_17 : decode cX63_form 17 = .ok (.ifCond .le 10, 3) := dk_158 0 10 (dk_at dksX63_form_0 17 rfl rfl)
theorem dX63_form_20 : decode cX63_form 20 = .ok (.aload_n 1, 1) := dk_43 (dk_at dksX63_form_0 20 rfl rfl)
theorem dX63_form_21 : decode cX63_form 21 = .ok (.bipush 32, 2) := dk_16 32 (dk_at dksX63_form_0 21 rfl rfl)
theorem dX63_form_23 : decode cX63_form 23 = .ok (.invokevirtual 39, 3) := dk_182 0 39 (dk_at dksX63_form_1 0 rfl rfl)
theorem dX63_form_26 : decode cX63_form 26 = .ok (.pop, 1) := dk_87 (dk_at dksX63_form_1 3 rfl rfl)
theorem dX63_form_27 : decode cX63_form 27 = .ok (.aload_n 1, 1) := dk_43 (dk_at dksX63_form_1 4 rfl rfl)
theorem dX63_form_28 : decode cX63_form 28 = .ok (.aload_n 0, 1) := dk_42 (dk_at dksX63_form_1 5 rfl rfl)
theorem dX63_form_29 : decode cX63_form 29 = .ok (.iload_n 2, 1) := dk_28 (dk_at dksX63_form_1 6 rfl rfl)
theorem dX63_form_30 : decode cX63_form 30 = .ok (.invokevirtual 32, 3) := dk_182 0 32 (dk_at dksX63_form_1 7 rfl rfl)
theorem dX63_form_33 : decode cX63_form 33 = .ok (.invokevirtual 43, 3) := dk_182 0 43 (dk_at dksX63_form_1 10 rfl rfl)
theorem dX63_form_36 : decode cX63_form 36 = .ok (.pop, 1) := dk_87 (dk_at dksX63_form_1 13 rfl rfl)
theorem dX63_form_37 : decode cX63_form 37 = .ok (.iinc 2 1, 3) := dk_132 2 1 (dk_at dksX63_form_1 14 rfl rfl)
theorem dX63_form_40 : decode cX63_form 40 = .ok (.goto (-30), 3) := dk_167 255 226 (dk_at dksX63_form_1 17 rfl rfl)
theorem dX63_form_43 : decode cX63_form 43 = .ok (.aload_n 0, 1) := dk_42 (dk_at dksX63_form_1 20 rfl rfl)
theorem dX63_form_44 : decode cX63_form 44 = .ok (.invokevirtual 28, 3) := dk_182 0 28 (dk_at dksX63_form_1 21 rfl rfl)
theorem dX63_form_47 : decode cX63_form 47 = .ok (.ifCond .eq 20, 3) := dk_153 0 20 (dk_at dksX63_form_2 0 rfl rfl)
theorem dX63_form_50 : decode cX63_form 50 = .ok (.aload_n 1, 1) := dk_43 (dk_at dksX63_form_2 3 rfl rfl)
theorem dX63_form_51 : decode cX63_form 51 = .ok (.ldc 46, 2) := dk_18 46 (dk_at dksX63_form_2 4 rfl rfl)
theorem dX63_form_53 : decode cX63_form 53 = .ok (.invokevirtual 48, 3) := dk_182 0 48 (dk_at dksX63_form_2 6 rfl rfl)
theorem dX63_form_56 : decode cX63_form 56 = .ok (.aload_n 0, 1) := dk_42 (dk_at dksX63_form_2 9 rfl rfl)
theorem dX63_form_57 : decode cX63_form 57 = .ok (.getfield 9, 3) := dk_180 0 9 (dk_at dksX63_form_2 10 rfl rfl)
theorem dX63_form_60 : decode cX63_form 60 = .ok (.bipush 8, 2) := dk_16 8 (dk_at dksX63_form_2 13 rfl rfl)
theorem dX63_form_62 : decode cX63_form 62 = .ok (.laload, 1) := dk_47 (dk_at dksX63_form_2 15 rfl rfl)
theorem dX63_form_63 : decode cX63_form 63 = .ok (.invokevirtual 43, 3) := dk_182 0 43 (dk_at dksX63_form_2 16 rfl rfl)
theorem dX63_form_66 : decode cX63_form 66 = .ok (.pop, 1) := dk_87 (dk_at dksX63_form_2 19 rfl rfl)
theorem dX63_form_67 : decode cX63_form 67 = .ok (.aload_n 1, 1) := dk_43 (dk_at dksX63_form_2 20 rfl rfl)
theorem dX63_form_68 : decode cX63_form 68 = .ok (.invokevirtual 51, 3) := dk_182 0 51 (dk_at dksX63_form_2 21 rfl rfl)
theorem dX63_form_71 : decode cX63_form 71 = .ok (.areturn, 1) := dk_176 (dk_at dksX63_form_3 0 rfl rfl)
theorem q504 : (Jvm.Cond.initialized "WasteHouse$TicketChain$Ticket") ∈ lw_all := lw_g (lw_at lw_m1 112 rfl) rfl
theorem q2021 : (Jvm.Cond.selects "WasteHouse$TicketChain$Ticket" ({ cls := "java/lang/Object", name := "getClass", desc := "()Ljava/lang/Class;" } : Jvm.MethodName) ({ cls := "java/lang/Object", name := "getClass", desc := "()Ljava/lang/Class;" } : Jvm.MethodName)) ∈ lw_all := lw_g (lw_at lw_m7 189 rfl) rfl
theorem q3131 : (Jvm.Cond.selects "WasteHouse$TicketChain$Ticket" ({ cls := "java/lang/Object", name := "equals", desc := "(Ljava/lang/Object;)Z" } : Jvm.MethodName) ({ cls := "java/lang/Object", name := "equals", desc := "(Ljava/lang/Object;)Z" } : Jvm.MethodName)) ∈ lw_all := lw_g (lw_at lw_m12 99 rfl) rfl
theorem q3649 : (Jvm.Cond.selects "WasteHouse$TicketChain$Ticket" ({ cls := "java/lang/Object", name := "hashCode", desc := "()I" } : Jvm.MethodName) ({ cls := "java/lang/Object", name := "hashCode", desc := "()I" } : Jvm.MethodName)) ∈ lw_all := lw_g (lw_at lw_m14 137 rfl) rfl
theorem q5107 : (Jvm.Cond.static ({ cls := "WasteHouse$TicketChain$Ticket", name := "fits", desc := "(IJ)Z" } : Jvm.MethodName)) ∈ lw_all := lw_g (lw_at lw_m20 155 rfl) rfl
theorem q5108 : (Jvm.Cond.code ({ cls := "WasteHouse$TicketChain$Ticket", name := "fits", desc := "(IJ)Z" } : Jvm.MethodName) prog_52_method_9_code (3 : Nat) (Option.some Jvm.ClassFile.FieldType.boolean)) ∈ lw_all := lw_g (lw_at lw_m20 156 rfl) rfl
theorem q5109 : (Jvm.Cond.constantLong "WasteHouse$TicketChain$Ticket" (55 : Nat) (100 : Int64)) ∈ lw_all := lw_g (lw_at lw_m20 157 rfl) rfl
theorem q5110 : (Jvm.Cond.constantLong "WasteHouse$TicketChain$Ticket" (57 : Nat) (10 : Int64)) ∈ lw_all := lw_g (lw_at lw_m20 158 rfl) rfl
theorem q5111 : (Jvm.Cond.constantLong "WasteHouse$TicketChain$Ticket" (59 : Nat) (1000000000 : Int64)) ∈ lw_all := lw_g (lw_at lw_m20 159 rfl) rfl
theorem q5112 : (Jvm.Cond.constantLong "WasteHouse$TicketChain$Ticket" (61 : Nat) (8000000000 : Int64)) ∈ lw_all := lw_g (lw_at lw_m20 160 rfl) rfl
theorem q5113 : (Jvm.Cond.constantLong "WasteHouse$TicketChain$Ticket" (63 : Nat) (1000 : Int64)) ∈ lw_all := lw_g (lw_at lw_m20 161 rfl) rfl
theorem q5123 : (Jvm.Cond.instantiable "WasteHouse$TicketChain$Ticket" (5 : Nat)) ∈ lw_all := lw_g (lw_at lw_m20 171 rfl) rfl
theorem q5125 : (Jvm.Cond.instanceMethod ({ cls := "WasteHouse$TicketChain$Ticket", name := "<init>", desc := "(I)V" } : Jvm.MethodName)) ∈ lw_all := lw_g (lw_at lw_m20 173 rfl) rfl
theorem q5126 : (Jvm.Cond.code ({ cls := "WasteHouse$TicketChain$Ticket", name := "<init>", desc := "(I)V" } : Jvm.MethodName) prog_52_method_1_code (2 : Nat) (Option.none : Option Jvm.ClassFile.FieldType)) ∈ lw_all := lw_g (lw_at lw_m20 174 rfl) rfl
theorem q5127 : (Jvm.Cond.methodLink "WasteHouse$TicketChain$Ticket" (3 : Nat) ({ cls := "java/lang/Object", name := "<init>", desc := "()V" } : Jvm.MethodName)) ∈ lw_all := lw_g (lw_at lw_m20 175 rfl) rfl
theorem q5128 : (Jvm.Cond.fieldLink "WasteHouse$TicketChain$Ticket" (24 : Nat) "WasteHouse$TicketChain$Ticket" "number" "I") ∈ lw_all := lw_g (lw_at lw_m20 176 rfl) rfl
theorem q5131 : (Jvm.Cond.fieldLink "WasteHouse$TicketChain$Ticket" (9 : Nat) "WasteHouse$TicketChain$Ticket" "fields" "[J") ∈ lw_all := lw_g (lw_at lw_m20 179 rfl) rfl
theorem q5132 : (Jvm.Cond.fieldLink "WasteHouse$TicketChain$Ticket" (15 : Nat) "WasteHouse$TicketChain$Ticket" "parts" "[J") ∈ lw_all := lw_g (lw_at lw_m20 180 rfl) rfl
theorem q5133 : (Jvm.Cond.fieldLink "WasteHouse$TicketChain$Ticket" (18 : Nat) "WasteHouse$TicketChain$Ticket" "shares" "[J") ∈ lw_all := lw_g (lw_at lw_m20 181 rfl) rfl
theorem q5134 : (Jvm.Cond.fieldLink "WasteHouse$TicketChain$Ticket" (21 : Nat) "WasteHouse$TicketChain$Ticket" "rests" "[J") ∈ lw_all := lw_g (lw_at lw_m20 182 rfl) rfl
theorem q5135 : (Jvm.Cond.laysFinal "WasteHouse$TicketChain$Ticket" "WasteHouse$TicketChain$Ticket" "number" "I") ∈ lw_all := lw_g (lw_at lw_m20 183 rfl) rfl
theorem q5136 : (Jvm.Cond.soleField "WasteHouse$TicketChain$Ticket" "number") ∈ lw_all := lw_g (lw_at lw_m20 184 rfl) rfl
theorem q5137 : (Jvm.Cond.laysFinal "WasteHouse$TicketChain$Ticket" "WasteHouse$TicketChain$Ticket" "fields" "[J") ∈ lw_all := lw_g (lw_at lw_m20 185 rfl) rfl
theorem q5138 : (Jvm.Cond.soleField "WasteHouse$TicketChain$Ticket" "fields") ∈ lw_all := lw_g (lw_at lw_m20 186 rfl) rfl
theorem q5139 : (Jvm.Cond.laysFinal "WasteHouse$TicketChain$Ticket" "WasteHouse$TicketChain$Ticket" "parts" "[J") ∈ lw_all := lw_g (lw_at lw_m20 187 rfl) rfl
theorem q5140 : (Jvm.Cond.soleField "WasteHouse$TicketChain$Ticket" "parts") ∈ lw_all := lw_g (lw_at lw_m20 188 rfl) rfl
theorem q5141 : (Jvm.Cond.laysFinal "WasteHouse$TicketChain$Ticket" "WasteHouse$TicketChain$Ticket" "shares" "[J") ∈ lw_all := lw_g (lw_at lw_m20 189 rfl) rfl
theorem q5142 : (Jvm.Cond.soleField "WasteHouse$TicketChain$Ticket" "shares") ∈ lw_all := lw_g (lw_at lw_m20 190 rfl) rfl
theorem q5143 : (Jvm.Cond.laysFinal "WasteHouse$TicketChain$Ticket" "WasteHouse$TicketChain$Ticket" "rests" "[J") ∈ lw_all := lw_g (lw_at lw_m20 191 rfl) rfl
theorem q5144 : (Jvm.Cond.soleField "WasteHouse$TicketChain$Ticket" "rests") ∈ lw_all := lw_g (lw_at lw_m20 192 rfl) rfl
theorem q5145 : (Jvm.Cond.superclass "WasteHouse$TicketChain$Ticket" "java/lang/Object") ∈ lw_all := lw_g (lw_at lw_m20 193 rfl) rfl
theorem q5147 : (Jvm.Cond.instanceMethod ({ cls := "WasteHouse$TicketChain$Ticket", name := "set", desc := "(IJ)V" } : Jvm.MethodName)) ∈ lw_all := lw_g (lw_at lw_m20 195 rfl) rfl
theorem q5148 : (Jvm.Cond.selects "WasteHouse$TicketChain$Ticket" ({ cls := "WasteHouse$TicketChain$Ticket", name := "set", desc := "(IJ)V" } : Jvm.MethodName) ({ cls := "WasteHouse$TicketChain$Ticket", name := "set", desc := "(IJ)V" } : Jvm.MethodName)) ∈ lw_all := lw_g (lw_at lw_m20 196 rfl) rfl
theorem q5149 : (Jvm.Cond.code ({ cls := "WasteHouse$TicketChain$Ticket", name := "set", desc := "(IJ)V" } : Jvm.MethodName) prog_52_method_3_code (4 : Nat) (Option.none : Option Jvm.ClassFile.FieldType)) ∈ lw_all := lw_g (lw_at lw_m20 197 rfl) rfl
theorem q5168 : (Jvm.Cond.instanceMethod ({ cls := "WasteHouse$TicketChain$Ticket", name := "get", desc := "(I)J" } : Jvm.MethodName)) ∈ lw_all := lw_g (lw_at lw_m20 216 rfl) rfl
theorem q5169 : (Jvm.Cond.selects "WasteHouse$TicketChain$Ticket" ({ cls := "WasteHouse$TicketChain$Ticket", name := "get", desc := "(I)J" } : Jvm.MethodName) ({ cls := "WasteHouse$TicketChain$Ticket", name := "get", desc := "(I)J" } : Jvm.MethodName)) ∈ lw_all := lw_g (lw_at lw_m20 217 rfl) rfl
theorem q5170 : (Jvm.Cond.code ({ cls := "WasteHouse$TicketChain$Ticket", name := "get", desc := "(I)J" } : Jvm.MethodName) prog_52_method_2_code (2 : Nat) (Option.some Jvm.ClassFile.FieldType.long)) ∈ lw_all := lw_g (lw_at lw_m20 218 rfl) rfl
theorem q5621 : (Jvm.Cond.instanceMethod ({ cls := "WasteHouse$TicketChain$Ticket", name := "divide", desc := "()Z" } : Jvm.MethodName)) ∈ lw_all := lw_g (lw_at lw_m22 189 rfl) rfl
theorem q5622 : (Jvm.Cond.selects "WasteHouse$TicketChain$Ticket" ({ cls := "WasteHouse$TicketChain$Ticket", name := "divide", desc := "()Z" } : Jvm.MethodName) ({ cls := "WasteHouse$TicketChain$Ticket", name := "divide", desc := "()Z" } : Jvm.MethodName)) ∈ lw_all := lw_g (lw_at lw_m22 190 rfl) rfl
theorem q5623 : (Jvm.Cond.code ({ cls := "WasteHouse$TicketChain$Ticket", name := "divide", desc := "()Z" } : Jvm.MethodName) prog_52_method_6_code (9 : Nat) (Option.some Jvm.ClassFile.FieldType.boolean)) ∈ lw_all := lw_g (lw_at lw_m22 191 rfl) rfl
theorem q5624 : (Jvm.Cond.methodLink "WasteHouse$TicketChain$Ticket" (28 : Nat) ({ cls := "WasteHouse$TicketChain$Ticket", name := "isVoid", desc := "()Z" } : Jvm.MethodName)) ∈ lw_all := lw_g (lw_at lw_m22 192 rfl) rfl
theorem q5625 : (Jvm.Cond.instanceMethod ({ cls := "WasteHouse$TicketChain$Ticket", name := "isVoid", desc := "()Z" } : Jvm.MethodName)) ∈ lw_all := lw_g (lw_at lw_m22 193 rfl) rfl
theorem q5626 : (Jvm.Cond.selects "WasteHouse$TicketChain$Ticket" ({ cls := "WasteHouse$TicketChain$Ticket", name := "isVoid", desc := "()Z" } : Jvm.MethodName) ({ cls := "WasteHouse$TicketChain$Ticket", name := "isVoid", desc := "()Z" } : Jvm.MethodName)) ∈ lw_all := lw_g (lw_at lw_m22 194 rfl) rfl
theorem q5627 : (Jvm.Cond.code ({ cls := "WasteHouse$TicketChain$Ticket", name := "isVoid", desc := "()Z" } : Jvm.MethodName) prog_52_method_4_code (1 : Nat) (Option.some Jvm.ClassFile.FieldType.boolean)) ∈ lw_all := lw_g (lw_at lw_m22 195 rfl) rfl
theorem q5628 : (Jvm.Cond.methodLink "WasteHouse$TicketChain$Ticket" (32 : Nat) ({ cls := "WasteHouse$TicketChain$Ticket", name := "get", desc := "(I)J" } : Jvm.MethodName)) ∈ lw_all := lw_g (lw_at lw_m22 196 rfl) rfl
theorem q5630 : (Jvm.Cond.instanceMethod ({ cls := "WasteHouse$TicketChain$Ticket", name := "share", desc := "(I)J" } : Jvm.MethodName)) ∈ lw_all := lw_g (lw_at lw_m22 198 rfl) rfl
theorem q5631 : (Jvm.Cond.selects "WasteHouse$TicketChain$Ticket" ({ cls := "WasteHouse$TicketChain$Ticket", name := "share", desc := "(I)J" } : Jvm.MethodName) ({ cls := "WasteHouse$TicketChain$Ticket", name := "share", desc := "(I)J" } : Jvm.MethodName)) ∈ lw_all := lw_g (lw_at lw_m22 199 rfl) rfl
theorem q5632 : (Jvm.Cond.code ({ cls := "WasteHouse$TicketChain$Ticket", name := "share", desc := "(I)J" } : Jvm.MethodName) prog_52_method_7_code (2 : Nat) (Option.some Jvm.ClassFile.FieldType.long)) ∈ lw_all := lw_g (lw_at lw_m22 200 rfl) rfl
theorem q6522 : (Jvm.Cond.instanceMethod ({ cls := "WasteHouse$TicketChain$Ticket", name := "part", desc := "(IJ)V" } : Jvm.MethodName)) ∈ lw_all := lw_g (lw_at lw_m26 130 rfl) rfl
theorem q6523 : (Jvm.Cond.selects "WasteHouse$TicketChain$Ticket" ({ cls := "WasteHouse$TicketChain$Ticket", name := "part", desc := "(IJ)V" } : Jvm.MethodName) ({ cls := "WasteHouse$TicketChain$Ticket", name := "part", desc := "(IJ)V" } : Jvm.MethodName)) ∈ lw_all := lw_g (lw_at lw_m26 131 rfl) rfl
theorem q6524 : (Jvm.Cond.code ({ cls := "WasteHouse$TicketChain$Ticket", name := "part", desc := "(IJ)V" } : Jvm.MethodName) prog_52_method_5_code (4 : Nat) (Option.none : Option Jvm.ClassFile.FieldType)) ∈ lw_all := lw_g (lw_at lw_m26 132 rfl) rfl
theorem q6531 : (Jvm.Cond.instanceMethod ({ cls := "WasteHouse$TicketChain$Ticket", name := "form", desc := "()Ljava/lang/String;" } : Jvm.MethodName)) ∈ lw_all := lw_g (lw_at lw_m26 139 rfl) rfl
theorem q6532 : (Jvm.Cond.selects "WasteHouse$TicketChain$Ticket" ({ cls := "WasteHouse$TicketChain$Ticket", name := "form", desc := "()Ljava/lang/String;" } : Jvm.MethodName) ({ cls := "WasteHouse$TicketChain$Ticket", name := "form", desc := "()Ljava/lang/String;" } : Jvm.MethodName)) ∈ lw_all := lw_g (lw_at lw_m26 140 rfl) rfl
theorem q6533 : (Jvm.Cond.code ({ cls := "WasteHouse$TicketChain$Ticket", name := "form", desc := "()Ljava/lang/String;" } : Jvm.MethodName) prog_52_method_8_code (3 : Nat) (Option.some (Jvm.ClassFile.FieldType.object "java/lang/String"))) ∈ lw_all := lw_g (lw_at lw_m26 141 rfl) rfl
theorem q6534 : (Jvm.Cond.classLink "WasteHouse$TicketChain$Ticket" (36 : Nat) "java/lang/StringBuilder") ∈ lw_all := lw_g (lw_at lw_m26 142 rfl) rfl
theorem q6535 : (Jvm.Cond.methodLink "WasteHouse$TicketChain$Ticket" (38 : Nat) ({ cls := "java/lang/StringBuilder", name := "<init>", desc := "()V" } : Jvm.MethodName)) ∈ lw_all := lw_g (lw_at lw_m26 143 rfl) rfl
theorem q6536 : (Jvm.Cond.methodLink "WasteHouse$TicketChain$Ticket" (39 : Nat) ({ cls := "java/lang/StringBuilder", name := "append", desc := "(C)Ljava/lang/StringBuilder;" } : Jvm.MethodName)) ∈ lw_all := lw_g (lw_at lw_m26 144 rfl) rfl
theorem q6537 : (Jvm.Cond.methodLink "WasteHouse$TicketChain$Ticket" (43 : Nat) ({ cls := "java/lang/StringBuilder", name := "append", desc := "(J)Ljava/lang/StringBuilder;" } : Jvm.MethodName)) ∈ lw_all := lw_g (lw_at lw_m26 145 rfl) rfl
theorem q6564 : (Jvm.Cond.stringRef "WasteHouse$TicketChain$Ticket" (46 : Nat) " VOID ") ∈ lw_tbl := lw_at lw_m26 172 rfl
theorem q6565 : (Jvm.Cond.methodLink "WasteHouse$TicketChain$Ticket" (48 : Nat) ({ cls := "java/lang/StringBuilder", name := "append", desc := "(Ljava/lang/String;)Ljava/lang/StringBuilder;" } : Jvm.MethodName)) ∈ lw_all := lw_g (lw_at lw_m26 173 rfl) rfl
theorem q6566 : (Jvm.Cond.methodLink "WasteHouse$TicketChain$Ticket" (51 : Nat) ({ cls := "java/lang/StringBuilder", name := "toString", desc := "()Ljava/lang/String;" } : Jvm.MethodName)) ∈ lw_all := lw_g (lw_at lw_m26 174 rfl) rfl
theorem q9703 : (Jvm.Cond.castable "WasteHouse$TicketChain$Ticket" "java/lang/Object") ∈ lw_tbl := lw_at lw_m39 191 rfl
theorem in_X63 : ∀ w ∈ wsX630, w ∈ lw_all := lw_in wsX630 [5135, 5137, 5139, 5141, 5143] (by decide +kernel) (by decide +kernel)
