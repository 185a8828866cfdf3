/-! WasteHouse$TicketChain$Fixed -/
set_option maxRecDepth 100000
def RX5 : String := "WasteHouse$TicketChain$Fixed"
def TX5 : u_T := fun k => match k with
  | 0 => ("WasteHouse$TicketChain$Fixed", "cubes", "[I", true)
  | _ => ("WasteHouse$TicketChain$Fixed", "squares", "[I", true)
def tyX5 : Nat → FieldType := fun k => match k with
  | 0 => .array .int
  | _ => .array .int
abbrev wsX50 : List Cond := u_ws RX5 TX5 2
theorem nmX5 : ∀ a, a < 2 → ∀ b, b < 2 → a ≠ b → (TX5 a).2.1 ≠ (TX5 b).2.1 := by decide +kernel
theorem tyX5_ok : ∀ k, k < 2 → parseFieldDescriptor (TX5 k).2.2.1 = some (tyX5 k) := by decide +kernel
abbrev cX5_init : ByteArray := prog_50_method_1_code
def yX5_init : MethodName := ⟨RX5, "<init>", "()V"⟩
def dkwX5_init_2 : List UInt8 := [180, 0, 13, 28, 27, 5, 184, 0, 16, 79, 27, 184, 0, 20, 60, 132, 2, 1, 167, 255, 214, 177]
abbrev dktX5_init_2 : List UInt8 := dkwX5_init_2 ++ []
def dkwX5_init_1 : List UInt8 := [28, 16, 64, 162, 0, 42, 42, 180, 0, 7, 28, 27, 6, 184, 0, 16, 79, 28, 16, 8, 162, 0, 14, 42]
abbrev dktX5_init_1 : List UInt8 := dkwX5_init_1 ++ dktX5_init_2
def dkwX5_init_0 : List UInt8 := [42, 183, 0, 1, 42, 16, 64, 188, 10, 181, 0, 7, 42, 16, 8, 188, 10, 181, 0, 13, 5, 60, 3, 61]
abbrev dktX5_init_0 : List UInt8 := dkwX5_init_0 ++ dktX5_init_1
theorem dksX5_init_0 : cX5_init.data.toList.drop 0 = dktX5_init_0 := by decide +kernel
theorem dksX5_init_1 : cX5_init.data.toList.drop 24 = dktX5_init_1 := dk_seg dksX5_init_0 24 rfl rfl
theorem dksX5_init_2 : cX5_init.data.toList.drop 48 = dktX5_init_2 := dk_seg dksX5_init_1 24 rfl rfl
theorem dX5_init_0 : decode cX5_init 0 = .ok (.aload_n 0, 1) := dk_42 (dk_at dksX5_init_0 0 rfl rfl)
theorem dX5_init_1 : decode cX5_init 1 = .ok (.invokespecial 1, 3) := dk_183 0 1 (dk_at dksX5_init_0 1 rfl rfl)
theorem dX5_init_4 : decode cX5_init 4 = .ok (.aload_n 0, 1) := dk_42 (dk_at dksX5_init_0 4 rfl rfl)
theorem dX5_init_5 : decode cX5_init 5 = .ok (.bipush 64, 2) := dk_16 64 (dk_at dksX5_init_0 5 rfl rfl)
theorem dX5_init_7 : decode cX5_init 7 = .ok (.newarray .int, 2) := dk_188_10 (dk_at dksX5_init_0 7 rfl rfl)
theorem dX5_init_9 : decode cX5_init 9 = .ok (.putfield 7, 3) := dk_181 0 7 (dk_at dksX5_init_0 9 rfl rfl)
theorem dX5_init_12 : decode cX5_init 12 = .ok (.aload_n 0, 1) := dk_42 (dk_at dksX5_init_0 12 rfl rfl)
theorem dX5_init_13 : decode cX5_init 13 = .ok (.bipush 8, 2) := dk_16 8 (dk_at dksX5_init_0 13 rfl rfl)
theorem dX5_init_15 : decode cX5_init 15 = .ok (.newarray .int, 2) := dk_188_10 (dk_at dksX5_init_0 15 rfl rfl)
theorem dX5_init_17 : decode cX5_init 17 = .ok (.putfield 13, 3) := dk_181 0 13 (dk_at dksX5_init_0 17 rfl rfl)
theorem dX5_init_20 : decode cX5_init 20 = .ok (.iconst 2, 1) := dk_5 (dk_at dksX5_init_0 20 rfl rfl)
theorem dX5_init_21 : decode cX5_init 21 = .ok (.istore_n 1, 1) := dk_60 (dk_at dksX5_init_0 21 rfl rfl)
theorem dX5_init_22 : decode cX5_init 22 = .ok (.iconst 0, 1) := dk_3 (dk_at dksX5_init_0 22 rfl rfl)
theorem dX5_init_23 : decode cX5_init 23 = .ok (.istore_n 2, 1) := dk_61 (dk_at dksX5_init_0 23 rfl rfl)
theorem dX5_init_24 : decode cX5_init 24 = .ok (.iload_n 2, 1) := dk_28 (dk_at dksX5_init_1 0 rfl rfl)
theorem dX5_init_25 : decode cX5_init 25 = .ok (.bipush 64, 2) := dk_16 64 (dk_at dksX5_init_1 1 rfl rfl)
theorem dX5_init_27 : decode cX5_init 27 = .ok (.if_icmp .ge 42, 3) := dk_162 0 42 (dk_at dksX5_init_1 3 rfl rfl)
theorem dX5_init_30 : decode cX5_init 30 = .ok (.aload_n 0, 1) := dk_42 (dk_at dksX5_init_1 6 rfl rfl)
theorem dX5_init_31 : decode cX5_init 31 = .ok (.getfield 7, 3) := dk_180 0 7 (dk_at dksX5_init_1 7 rfl rfl)
theorem dX5_init_34 : decode cX5_init 34 = .ok (.iload_n 2, 1) := dk_28 (dk_at dksX5_init_1 10 rfl rfl)
theorem dX5_init_35 : decode cX5_init 35 = .ok (.iload_n 1, 1) := dk_27 (dk_at dksX5_init_1 11 rfl rfl)
theorem dX5_init_36 : decode cX5_init 36 = .ok (.iconst 3, 1) := dk_6 (dk_at dksX5_init_1 12 rfl rfl)
theorem dX5_init_37 : decode cX5_init 37 = .ok (.invokestatic 16, 3) := dk_184 0 16 (dk_at dksX5_init_1 13 rfl rfl)
theorem dX5_init_40 : decode cX5_init 40 = .ok (.iastore, 1) := dk_79 (dk_at dksX5_init_1 16 rfl rfl)
theorem dX5_init_41 : decode cX5_init 41 = .ok (.iload_n 2, 1) := dk_28 (dk_at dksX5_init_1 17 rfl rfl)
theorem dX5_init_42 : decode cX5_init 42 = .ok (.bipush 8, 2) := dk_16 8 (dk_at dksX5_init_1 18 rfl rfl)
theorem dX5_init_44 : decode cX5_init 44 = .ok (.if_icmp .ge 14, 3) := dk_162 0 14 (dk_at dksX5_init_1 20 rfl rfl)
theorem dX5_init_47 : decode cX5_init 47 = .ok (.aload_n 0, 1) := dk_42 (dk_at dksX5_init_1 23 rfl rfl)
theorem dX5_init_48 : decode cX5_init 48 = .ok (.getfield 13, 3) := dk_180 0 13 (dk_at dksX5_init_2 0 rfl rfl)
theorem dX5_init_51 : decode cX5_init 51 = .ok (.iload_n 2, 1) := dk_28 (dk_at dksX5_init_2 3 rfl rfl)
theorem dX5_init_52 : decode cX5_init 52 = .ok (.iload_n 1, 1) := dk_27 (dk_at dksX5_init_2 4 rfl rfl)
theorem dX5_init_53 : decode cX5_init 53 = .ok (.iconst 2, 1) := dk_5 (dk_at dksX5_init_2 5 rfl rfl)
theorem dX5_init_54 : decode cX5_init 54 = .ok (.invokestatic 16, 3) := dk_184 0 16 (dk_at dksX5_init_2 6 rfl rfl)
theorem dX5_init_57 : decode cX5_init 57 = .ok (.iastore, 1) := dk_79 (dk_at dksX5_init_2 9 rfl rfl)
theorem dX5_init_58 : decode cX5_init 58 = .ok (.iload_n 1, 1) := dk_27 (dk_at dksX5_init_2 10 rfl rfl)
theorem dX5_init_59 : decode cX5_init 59 = .ok (.invokestatic 20, 3) := dk_184 0 20 (dk_at dksX5_init_2 11 rfl rfl)
theorem dX5_init_62 : decode cX5_init 62 = .ok (.istore_n 1, 1) := dk_60 (dk_at dksX5_init_2 14 rfl rfl)
theorem dX5_init_63 : decode cX5_init 63 = .ok (.iinc 2 1, 3) := dk_132 2 1 (dk_at dksX5_init_2 15 rfl rfl)
theorem dX5_init_66 : decode cX5_init 66 = .ok (.goto (-42), 3) := dk_167 255 214 (dk_at dksX5_init_2 18 rfl rfl)
theorem dX5_init_69 : decode cX5_init 69 = .ok (.return_, 1) := dk_177 (dk_at dksX5_init_2 21 rfl rfl)
abbrev cX5_root : ByteArray := prog_50_method_4_code
def yX5_root : MethodName := ⟨RX5, "root", "(II)I"⟩
def dkwX5_root_1 : List UInt8 := [184, 0, 28, 153, 0, 8, 22, 5, 167, 0, 4, 32, 65, 132, 4, 255, 167, 255, 223, 32, 136, 172]
abbrev dktX5_root_1 : List UInt8 := dkwX5_root_1 ++ []
def dkwX5_root_0 : List UInt8 := [9, 65, 16, 36, 54, 4, 21, 4, 155, 0, 34, 32, 10, 21, 4, 121, 129, 55, 5, 22, 5, 27, 26]
abbrev dktX5_root_0 : List UInt8 := dkwX5_root_0 ++ dktX5_root_1
theorem dksX5_root_0 : cX5_root.data.toList.drop 0 = dktX5_root_0 := by decide +kernel
theorem dksX5_root_1 : cX5_root.data.toList.drop 23 = dktX5_root_1 := dk_seg dksX5_root_0 23 rfl rfl
theorem dX5_root_0 : decode cX5_root 0 = .ok (.lconst 0, 1) := dk_9 (dk_at dksX5_root_0 0 rfl rfl)
theorem dX5_root_1 : decode cX5_root 1 = .ok (.lstore_n 2, 1) := dk_65 (dk_at dksX5_root_0 1 rfl rfl)
theorem dX5_root_2 : decode cX5_root 2 = .ok (.bipush 36, 2) := dk_16 36 (dk_at dksX5_root_0 2 rfl rfl)
theorem dX5_root_4 : decode cX5_root 4 = .ok (.istore 4, 2) := dk_54 4 (dk_at dksX5_root_0 4 rfl rfl)
theorem dX5_root_6 : decode cX5_root 6 = .ok (.iload 4, 2) := dk_21 4 (dk_at dksX5_root_0 6 rfl rfl)
theorem dX5_root_8 : decode cX5_root 8 = .ok (.ifCond .lt 34, 3) := dk_155 0 34 (dk_at dksX5_root_0 8 rfl rfl)
theorem dX5_root_11 : decode cX5_root 11 = .ok (.lload_n 2, 1) := dk_32 (dk_at dksX5_root_0 11 rfl rfl)
theorem dX5_root_12 : decode cX5_root 12 = .ok (.lconst 1, 1) := dk_10 (dk_at dksX5_root_0 12 rfl rfl)
theorem dX5_root_13 : decode cX5_root 13 = .ok (.iload 4, 2) := dk_21 4 (dk_at dksX5_root_0 13 rfl rfl)
theorem dX5_root_15 : decode cX5_root 15 = .ok (.lshl, 1) := dk_121 (dk_at dksX5_root_0 15 rfl rfl)
theorem dX5_root_16 : decode cX5_root 16 = .ok (.lor, 1) := dk_129 (dk_at dksX5_root_0 16 rfl rfl)
theorem dX5_root_17 : decode cX5_root 17 = .ok (.lstore 5, 2) := dk_55 5 (dk_at dksX5_root_0 17 rfl rfl)
theorem dX5_root_19 : decode cX5_root 19 = .ok (.lload 5, 2) := dk_22 5 (dk_at dksX5_root_0 19 rfl rfl)
theorem dX5_root_21 : decode cX5_root 21 = .ok (.iload_n 1, 1) := dk_27 (dk_at dksX5_root_0 21 rfl rfl)
theorem dX5_root_22 : decode cX5_root 22 = .ok (.iload_n 0, 1) := dk_26 (dk_at dksX5_root_0 22 rfl rfl)
theorem dX5_root_23 : decode cX5_root 23 = .ok (.invokestatic 28, 3) := dk_184 0 28 (dk_at dksX5_root_1 0 rfl rfl)
theorem dX5_root_26 : decode cX5_root 26 = .ok (.ifCond .eq 8, 3) := dk_153 0 8 (dk_at dksX5_root_1 3 rfl rfl)
theorem dX5_root_29 : decode cX5_root 29 = .ok (.lload 5, 2) := dk_22 5 (dk_at dksX5_root_1 6 rfl rfl)
theorem dX5_root_31 : decode cX5_root 31 = .ok (.goto 4, 3) := dk_167 0 4 (dk_at dksX5_root_1 8 rfl rfl)
theorem dX5_root_34 : decode cX5_root 34 = .ok (.lload_n 2, 1) := dk_32 (dk_at dksX5_root_1 11 rfl rfl)
theorem dX5_root_35 : decode cX5_root 35 = .ok (.lstore_n 2, 1) := dk_65 (dk_at dksX5_root_1 12 rfl rfl)
theorem dX5_root_36 : decode cX5_root 36 = .ok (.iinc 4 (-1), 3) := dk_132 4 255 (dk_at dksX5_root_1 13 rfl rfl)
theorem dX5_root_39 : decode cX5_root 39 = .ok (.goto (-33), 3) := dk_167 255 223 (dk_at dksX5_root_1 16 rfl rfl)
theorem dX5_root_42 : decode cX5_root 42 = .ok (.lload_n 2, 1) := dk_32 (dk_at dksX5_root_1 19 rfl rfl)
theorem dX5_root_43 : decode cX5_root 43 = .ok (.l2i, 1) := dk_136 (dk_at dksX5_root_1 20 rfl rfl)
theorem dX5_root_44 : decode cX5_root 44 = .ok (.ireturn, 1) := dk_172 (dk_at dksX5_root_1 21 rfl rfl)
abbrev cX5_isAtMost : ByteArray := prog_50_method_5_code
def yX5_isAtMost : MethodName := ⟨RX5, "isAtMost", "(JII)Z"⟩
def dkwX5_isAtMost_10 : List UInt8 := [133, 148, 155, 0, 16, 22, 28, 29, 133, 148, 154, 0, 12, 21, 30, 153, 0, 7, 4, 167, 0, 4, 3, 172]
abbrev dktX5_isAtMost_10 : List UInt8 := dkwX5_isAtMost_10 ++ []
def dkwX5_isAtMost_9 : List UInt8 := [154, 0, 18, 22, 26, 20, 0, 32, 127, 9, 148, 154, 0, 7, 4, 167, 0, 4, 3, 54, 30, 22, 28, 29]
abbrev dktX5_isAtMost_9 : List UInt8 := dkwX5_isAtMost_9 ++ dktX5_isAtMost_10
def dkwX5_isAtMost_8 : List UInt8 := [125, 97, 55, 28, 22, 18, 20, 0, 32, 127, 9, 148, 154, 0, 29, 22, 22, 20, 0, 32, 127, 9, 148]
abbrev dktX5_isAtMost_8 : List UInt8 := dkwX5_isAtMost_8 ++ dktX5_isAtMost_9
def dkwX5_isAtMost_7 : List UInt8 := [127, 22, 14, 22, 6, 105, 97, 55, 26, 22, 12, 22, 6, 105, 22, 24, 16, 32, 125, 97, 22, 26, 16, 32]
abbrev dktX5_isAtMost_7 : List UInt8 := dkwX5_isAtMost_7 ++ dktX5_isAtMost_8
def dkwX5_isAtMost_6 : List UInt8 := [22, 12, 22, 4, 105, 22, 20, 16, 32, 125, 97, 22, 22, 16, 32, 125, 97, 55, 24, 22, 24, 20, 0, 32]
abbrev dktX5_isAtMost_6 : List UInt8 := dkwX5_isAtMost_6 ++ dktX5_isAtMost_7
def dkwX5_isAtMost_5 : List UInt8 := [105, 22, 18, 16, 32, 125, 97, 55, 20, 22, 20, 20, 0, 32, 127, 22, 16, 22, 6, 105, 97, 55, 22]
abbrev dktX5_isAtMost_5 : List UInt8 := dkwX5_isAtMost_5 ++ dktX5_isAtMost_6
def dkwX5_isAtMost_4 : List UInt8 := [22, 16, 9, 148, 154, 0, 7, 4, 167, 0, 4, 3, 172, 22, 16, 22, 4, 105, 55, 18, 22, 14, 22, 4]
abbrev dktX5_isAtMost_4 : List UInt8 := dkwX5_isAtMost_4 ++ dktX5_isAtMost_5
def dkwX5_isAtMost_3 : List UInt8 := [22, 12, 29, 133, 148, 155, 0, 25, 22, 12, 29, 133, 148, 154, 0, 21, 22, 14, 9, 148, 154, 0, 14]
abbrev dktX5_isAtMost_3 : List UInt8 := dkwX5_isAtMost_3 ++ dktX5_isAtMost_4
def dkwX5_isAtMost_2 : List UInt8 := [97, 55, 12, 22, 10, 20, 0, 32, 127, 55, 14, 22, 8, 20, 0, 32, 127, 55, 16, 28, 5, 160, 0, 39]
abbrev dktX5_isAtMost_2 : List UInt8 := dkwX5_isAtMost_2 ++ dktX5_isAtMost_3
def dkwX5_isAtMost_1 : List UInt8 := [22, 6, 105, 22, 4, 105, 22, 8, 16, 32, 125, 97, 55, 10, 22, 6, 22, 6, 105, 22, 10, 16, 32, 125]
abbrev dktX5_isAtMost_1 : List UInt8 := dkwX5_isAtMost_1 ++ dktX5_isAtMost_2
def dkwX5_isAtMost_0 : List UInt8 := [30, 20, 0, 32, 127, 55, 4, 30, 16, 32, 125, 55, 6, 22, 4, 22, 4, 105, 55, 8, 20, 0, 34]
abbrev dktX5_isAtMost_0 : List UInt8 := dkwX5_isAtMost_0 ++ dktX5_isAtMost_1
theorem dksX5_isAtMost_0 : cX5_isAtMost.data.toList.drop 0 = dktX5_isAtMost_0 := by decide +kernel
theorem dksX5_isAtMost_1 : cX5_isAtMost.data.toList.drop 23 = dktX5_isAtMost_1 := dk_seg dksX5_isAtMost_0 23 rfl rfl
theorem dksX5_isAtMost_2 : cX5_isAtMost.data.toList.drop 47 = dktX5_isAtMost_2 := dk_seg dksX5_isAtMost_1 24 rfl rfl
theorem dksX5_isAtMost_3 : cX5_isAtMost.data.toList.drop 71 = dktX5_isAtMost_3 := dk_seg dksX5_isAtMost_2 24 rfl rfl
theorem dksX5_isAtMost_4 : cX5_isAtMost.data.toList.drop 94 = dktX5_isAtMost_4 := dk_seg dksX5_isAtMost_3 23 rfl rfl
theorem dksX5_isAtMost_5 : cX5_isAtMost.data.toList.drop 118 = dktX5_isAtMost_5 := dk_seg dksX5_isAtMost_4 24 rfl rfl
theorem dksX5_isAtMost_6 : cX5_isAtMost.data.toList.drop 141 = dktX5_isAtMost_6 := dk_seg dksX5_isAtMost_5 23 rfl rfl
theorem dksX5_isAtMost_7 : cX5_isAtMost.data.toList.drop 165 = dktX5_isAtMost_7 := dk_seg dksX5_isAtMost_6 24 rfl rfl
theorem dksX5_isAtMost_8 : cX5_isAtMost.data.toList.drop 189 = dktX5_isAtMost_8 := dk_seg dksX5_isAtMost_7 24 rfl rfl
theorem dksX5_isAtMost_9 : cX5_isAtMost.data.toList.drop 212 = dktX5_isAtMost_9 := dk_seg dksX5_isAtMost_8 23 rfl rfl
theorem dksX5_isAtMost_10 : cX5_isAtMost.data.toList.drop 236 = dktX5_isAtMost_10 := dk_seg dksX5_isAtMost_9 24 rfl rfl
theorem dX5_isAtMost_0 : decode cX5_isAtMost 0 = .ok (.lload_n 0, 1) := dk_30 (dk_at dksX5_isAtMost_0 0 rfl rfl)
theorem dX5_isAtMost_1 : decode cX5_isAtMost 1 = .ok (.ldc2_w 32, 3) := dk_20 0 32 (dk_at dksX5_isAtMost_0 1 rfl rfl)
theorem dX5_isAtMost_4 : decode cX5_isAtMost 4 = .ok (.land, 1) := dk_127 (dk_at dksX5_isAtMost_0 4 rfl rfl)
theorem dX5_isAtMost_5 : decode cX5_isAtMost 5 = .ok (.lstore 4, 2) := dk_55 4 (dk_at dksX5_isAtMost_0 5 rfl rfl)
theorem dX5_isAtMost_7 : decode cX5_isAtMost 7 = .ok (.lload_n 0, 1) := dk_30 (dk_at dksX5_isAtMost_0 7 rfl rfl)
theorem dX5_isAtMost_8 : decode cX5_isAtMost 8 = .ok (.bipush 32, 2) := dk_16 32 (dk_at dksX5_isAtMost_0 8 rfl rfl)
theorem dX5_isAtMost_10 : decode cX5_isAtMost 10 = .ok (.lushr, 1) := dk_125 (dk_at dksX5_isAtMost_0 10 rfl rfl)
theorem dX5_isAtMost_11 : decode cX5_isAtMost 11 = .ok (.lstore 6, 2) := dk_55 6 (dk_at dksX5_isAtMost_0 11 rfl rfl)
theorem dX5_isAtMost_13 : decode cX5_isAtMost 13 = .ok (.lload 4, 2) := dk_22 4 (dk_at dksX5_isAtMost_0 13 rfl rfl)
theorem dX5_isAtMost_15 : decode cX5_isAtMost 15 = .ok (.lload 4, 2) := dk_22 4 (dk_at dksX5_isAtMost_0 15 rfl rfl)
theorem dX5_isAtMost_17 : decode cX5_isAtMost 17 = .ok (.lmul, 1) := dk_105 (dk_at dksX5_isAtMost_0 17 rfl rfl)
theorem dX5_isAtMost_18 : decode cX5_isAtMost 18 = .ok (.lstore 8, 2) := dk_55 8 (dk_at dksX5_isAtMost_0 18 rfl rfl)
theorem dX5_isAtMost_20 : decode cX5_isAtMost 20 = .ok (.ldc2_w 34, 3) := dk_20 0 34 (dk_at dksX5_isAtMost_0 20 rfl rfl)
theorem dX5_isAtMost_23 : decode cX5_isAtMost 23 = .ok (.lload 6, 2) := dk_22 6 (dk_at dksX5_isAtMost_1 0 rfl rfl)
theorem dX5_isAtMost_25 : decode cX5_isAtMost 25 = .ok (.lmul, 1) := dk_105 (dk_at dksX5_isAtMost_1 2 rfl rfl)
theorem dX5_isAtMost_26 : decode cX5_isAtMost 26 = .ok (.lload 4, 2) := dk_22 4 (dk_at dksX5_isAtMost_1 3 rfl rfl)
theorem dX5_isAtMost_28 : decode cX5_isAtMost 28 = .ok (.lmul, 1) := dk_105 (dk_at dksX5_isAtMost_1 5 rfl rfl)
theorem dX5_isAtMost_29 : decode cX5_isAtMost 29 = .ok (.lload 8, 2) := dk_22 8 (dk_at dksX5_isAtMost_1 6 rfl rfl)
theorem dX5_isAtMost_31 : decode cX5_isAtMost 31 = .ok (.bipush 32, 2) := dk_16 32 (dk_at dksX5_isAtMost_1 8 rfl rfl)
theorem dX5_isAtMost_33 : decode cX5_isAtMost 33 = .ok (.lushr, 1) := dk_125 (dk_at dksX5_isAtMost_1 10 rfl rfl)
theorem dX5_isAtMost_34 : decode cX5_isAtMost 34 = .ok (.ladd, 1) := dk_97 (dk_at dksX5_isAtMost_1 11 rfl rfl)
theorem dX5_isAtMost_35 : decode cX5_isAtMost 35 = .ok (.lstore 10, 2) := dk_55 10 (dk_at dksX5_isAtMost_1 12 rfl rfl)
theorem dX5_isAtMost_37 : decode cX5_isAtMost 37 = .ok (.lload 6, 2) := dk_22 6 (dk_at dksX5_isAtMost_1 14 rfl rfl)
theorem dX5_isAtMost_39 : decode cX5_isAtMost 39 = .ok (.lload 6, 2) := dk_22 6 (dk_at dksX5_isAtMost_1 16 rfl rfl)
theorem dX5_isAtMost_41 : decode cX5_isAtMost 41 = .ok (.lmul, 1) := dk_105 (dk_at dksX5_isAtMost_1 18 rfl rfl)
theorem dX5_isAtMost_42 : decode cX5_isAtMost 42 = .ok (.lload 10, 2) := dk_22 10 (dk_at dksX5_isAtMost_1 19 rfl rfl)
theorem dX5_isAtMost_44 : decode cX5_isAtMost 44 = .ok (.bipush 32, 2) := dk_16 32 (dk_at dksX5_isAtMost_1 21 rfl rfl)
theorem dX5_isAtMost_46 : decode cX5_isAtMost 46 = .ok (.lushr, 1) := dk_125 (dk_at dksX5_isAtMost_1 23 rfl rfl)
theorem dX5_isAtMost_47 : decode cX5_isAtMost 47 = .ok (.ladd, 1) := dk_97 (dk_at dksX5_isAtMost_2 0 rfl rfl)
theorem dX5_isAtMost_48 : decode cX5_isAtMost 48 = .ok (.lstore 12, 2) := dk_55 12 (dk_at dksX5_isAtMost_2 1 rfl rfl)
theorem dX5_isAtMost_50 : decode cX5_isAtMost 50 = .ok (.lload 10, 2) := dk_22 10 (dk_at dksX5_isAtMost_2 3 rfl rfl)
theorem dX5_isAtMost_52 : decode cX5_isAtMost 52 = .ok (.ldc2_w 32, 3) := dk_20 0 32 (dk_at dksX5_isAtMost_2 5 rfl rfl)
theorem dX5_isAtMost_55 : decode cX5_isAtMost 55 = .ok (.land, 1) := dk_127 (dk_at dksX5_isAtMost_2 8 rfl rfl)
theorem dX5_isAtMost_56 : decode cX5_isAtMost 56 = .ok (.lstore 14, 2) := dk_55 14 (dk_at dksX5_isAtMost_2 9 rfl rfl)
theorem dX5_isAtMost_58 : decode cX5_isAtMost 58 = .ok (.lload 8, 2) := dk_22 8 (dk_at dksX5_isAtMost_2 11 rfl rfl)
theorem dX5_isAtMost_60 : decode cX5_isAtMost 60 = .ok (.ldc2_w 32, 3) := dk_20 0 32 (dk_at dksX5_isAtMost_2 13 rfl rfl)
theorem dX5_isAtMost_63 : decode cX5_isAtMost 63 = .ok (.land, 1) := dk_127 (dk_at dksX5_isAtMost_2 16 rfl rfl)
theorem dX5_isAtMost_64 : decode cX5_isAtMost 64 = .ok (.lstore 16, 2) := dk_55 16 (dk_at dksX5_isAtMost_2 17 rfl rfl)
theorem dX5_isAtMost_66 : decode cX5_isAtMost 66 = .ok (.iload_n 2, 1) := dk_28 (dk_at dksX5_isAtMost_2 19 rfl rfl)
theorem dX5_isAtMost_67 : decode cX5_isAtMost 67 = .ok (.iconst 2, 1) := dk_5 (dk_at dksX5_isAtMost_2 20 rfl rfl)
theorem dX5_isAtMost_68 : decode cX5_isAtMost 68 = .ok (.if_icmp .ne 39, 3) := dk_160 0 39 (dk_at dksX5_isAtMost_2 21 rfl rfl)
theorem dX5_isAtMost_71 : decode cX5_isAtMost 71 = .ok (.lload 12, 2) := dk_22 12 (dk_at dksX5_isAtMost_3 0 rfl rfl)
theorem dX5_isAtMost_73 : decode cX5_isAtMost 73 = .ok (.iload_n 3, 1) := dk_29 (dk_at dksX5_isAtMost_3 2 rfl rfl)
theorem dX5_isAtMost_74 : decode cX5_isAtMost 74 = .ok (.i2l, 1) := dk_133 (dk_at dksX5_isAtMost_3 3 rfl rfl)
theorem dX5_isAtMost_75 : decode cX5_isAtMost 75 = .ok (.lcmp, 1) := dk_148 (dk_at dksX5_isAtMost_3 4 rfl rfl)
theorem dX5_isAtMost_76 : decode cX5_isAtMost 76 = .ok (.ifCond .lt 25, 3) := dk_155 0 25 (dk_at dksX5_isAtMost_3 5 rfl rfl)
theorem dX5_isAtMost_79 : decode cX5_isAtMost 79 = .ok (.lload 12, 2) := dk_22 12 (dk_at dksX5_isAtMost_3 8 rfl rfl)
theorem dX5_isAtMost_81 : decode cX5_isAtMost 81 = .ok (.iload_n 3, 1) := dk_29 (dk_at dksX5_isAtMost_3 10 rfl rfl)
theorem dX5_isAtMost_82 : decode cX5_isAtMost 82 = .ok (.i2l, 1) := dk_133 (dk_at dksX5_isAtMost_3 11 rfl rfl)
theorem dX5_isAtMost_83 : decode cX5_isAtMost 83 = .ok (.lcmp, 1) := dk_148 (dk_at dksX5_isAtMost_3 12 rfl rfl)
theorem dX5_isAtMost_84 : decode cX5_isAtMost 84 = .ok (.ifCond .ne 21, 3) := dk_154 0 21 (dk_at dksX5_isAtMost_3 13 rfl rfl)
theorem dX5_isAtMost_87 : decode cX5_isAtMost 87 = .ok (.lload 14, 2) := dk_22 14 (dk_at dksX5_isAtMost_3 16 rfl rfl)
theorem dX5_isAtMost_89 : decode cX5_isAtMost 89 = .ok (.lconst 0, 1) := dk_9 (dk_at dksX5_isAtMost_3 18 rfl rfl)
theorem dX5_isAtMost_90 : decode cX5_isAtMost 90 = .ok (.lcmp, 1) := dk_148 (dk_at dksX5_isAtMost_3 19 rfl rfl)
theorem dX5_isAtMost_91 : decode cX5_isAtMost 91 = .ok (.ifCond .ne 14, 3) := dk_154 0 14 (dk_at dksX5_isAtMost_3 20 rfl rfl)
theorem dX5_isAtMost_94 : decode cX5_isAtMost 94 = .ok (.lload 16, 2) := dk_22 16 (dk_at dksX5_isAtMost_4 0 rfl rfl)
theorem dX5_isAtMost_96 : decode cX5_isAtMost 96 = .ok (.lconst 0, 1) := dk_9 (dk_at dksX5_isAtMost_4 2 rfl rfl)
theorem dX5_isAtMost_97 : decode cX5_isAtMost 97 = .ok (.lcmp, 1) := dk_148 (dk_at dksX5_isAtMost_4 3 rfl rfl)
theorem dX5_isAtMost_98 : decode cX5_isAtMost 98 = .ok (.ifCond .ne 7, 3) := dk_154 0 7 (dk_at dksX5_isAtMost_4 4 rfl rfl)
theorem dX5_isAtMost_101 : decode cX5_isAtMost 101 = .ok (.iconst 1, 1) := dk_4 (dk_at dksX5_isAtMost_4 7 rfl rfl)
theorem dX5_isAtMost_102 : decode cX5_isAtMost 102 = .ok (.goto 4, 3) := dk_167 0 4 (dk_at dksX5_isAtMost_4 8 rfl rfl)
theorem dX5_isAtMost_105 : decode cX5_isAtMost 105 = .ok (.iconst 0, 1) := dk_3 (dk_at dksX5_isAtMost_4 11 rfl rfl)
theorem dX5_isAtMost_106 : decode cX5_isAtMost 106 = .ok (.ireturn, 1) := dk_172 (dk_at dksX5_isAtMost_4 12 rfl rfl)
theorem dX5_isAtMost_107 : decode cX5_isAtMost 107 = .ok (.lload 16, 2) := dk_22 16 (dk_at dksX5_isAtMost_4 13 rfl rfl)
theorem dX5_isAtMost_109 : decode cX5_isAtMost 109 = .ok (.lload 4, 2) := dk_22 4 (dk_at dksX5_isAtMost_4 15 rfl rfl)
theorem dX5_isAtMost_111 : decode cX5_isAtMost 111 = .ok (.lmul, 1) := dk_105 (dk_at dksX5_isAtMost_4 17 rfl rfl)
theorem dX5_isAtMost_112 : decode cX5_isAtMost 112 = .ok (.lstore 18, 2) := dk_55 18 (dk_at dksX5_isAtMost_4 18 rfl rfl)
theorem dX5_isAtMost_114 : decode cX5_isAtMost 114 = .ok (.lload 14, 2) := dk_22 14 (dk_at dksX5_isAtMost_4 20 rfl rfl)
theorem dX5_isAtMost_116 : decode cX5_isAtMost 116 = .ok (.lload 4, 2) := dk_22 4 (dk_at dksX5_isAtMost_4 22 rfl rfl)
theorem dX5_isAtMost_118 : decode cX5_isAtMost 118 = .ok (.lmul, 1) := dk_105 (dk_at dksX5_isAtMost_5 0 rfl rfl)
theorem dX5_isAtMost_119 : decode cX5_isAtMost 119 = .ok (.lload 18, 2) := dk_22 18 (dk_at dksX5_isAtMost_5 1 rfl rfl)
theorem dX5_isAtMost_121 : decode cX5_isAtMost 121 = .ok (.bipush 32, 2) := dk_16 32 (dk_at dksX5_isAtMost_5 3 rfl rfl)
theorem dX5_isAtMost_123 : decode cX5_isAtMost 123 = .ok (.lushr, 1) := dk_125 (dk_at dksX5_isAtMost_5 5 rfl rfl)
theorem dX5_isAtMost_124 : decode cX5_isAtMost 124 = .ok (.ladd, 1) := dk_97 (dk_at dksX5_isAtMost_5 6 rfl rfl)
theorem dX5_isAtMost_125 : decode cX5_isAtMost 125 = .ok (.lstore 20, 2) := dk_55 20 (dk_at dksX5_isAtMost_5 7 rfl rfl)
theorem dX5_isAtMost_127 : decode cX5_isAtMost 127 = .ok (.lload 20, 2) := dk_22 20 (dk_at dksX5_isAtMost_5 9 rfl rfl)
theorem dX5_isAtMost_129 : decode cX5_isAtMost 129 = .ok (.ldc2_w 32, 3) := dk_20 0 32 (dk_at dksX5_isAtMost_5 11 rfl rfl)
theorem dX5_isAtMost_132 : decode cX5_isAtMost 132 = .ok (.land, 1) := dk_127 (dk_at dksX5_isAtMost_5 14 rfl rfl)
theorem dX5_isAtMost_133 : decode cX5_isAtMost 133 = .ok (.lload 16, 2) := dk_22 16 (dk_at dksX5_isAtMost_5 15 rfl rfl)
theorem dX5_isAtMost_135 : decode cX5_isAtMost 135 = .ok (.lload 6, 2) := dk_22 6 (dk_at dksX5_isAtMost_5 17 rfl rfl)
theorem dX5_isAtMost_137 : decode cX5_isAtMost 137 = .ok (.lmul, 1) := dk_105 (dk_at dksX5_isAtMost_5 19 rfl rfl)
theorem dX5_isAtMost_138 : decode cX5_isAtMost 138 = .ok (.ladd, 1) := dk_97 (dk_at dksX5_isAtMost_5 20 rfl rfl)
theorem dX5_isAtMost_139 : decode cX5_isAtMost 139 = .ok (.lstore 22, 2) := dk_55 22 (dk_at dksX5_isAtMost_5 21 rfl rfl)
theorem dX5_isAtMost_141 : decode cX5_isAtMost 141 = .ok (.lload 12, 2) := dk_22 12 (dk_at dksX5_isAtMost_6 0 rfl rfl)
theorem dX5_isAtMost_143 : decode cX5_isAtMost 143 = .ok (.lload 4, 2) := dk_22 4 (dk_at dksX5_isAtMost_6 2 rfl rfl)
theorem dX5_isAtMost_145 : decode cX5_isAtMost 145 = .ok (.lmul, 1) := dk_105 (dk_at dksX5_isAtMost_6 4 rfl rfl)
theorem dX5_isAtMost_146 : decode cX5_isAtMost 146 = .ok (.lload 20, 2) := dk_22 20 (dk_at dksX5_isAtMost_6 5 rfl rfl)
theorem dX5_isAtMost_148 : decode cX5_isAtMost 148 = .ok (.bipush 32, 2) := dk_16 32 (dk_at dksX5_isAtMost_6 7 rfl rfl)
theorem dX5_isAtMost_150 : decode cX5_isAtMost 150 = .ok (.lushr, 1) := dk_125 (dk_at dksX5_isAtMost_6 9 rfl rfl)
theorem dX5_isAtMost_151 : decode cX5_isAtMost 151 = .ok (.ladd, 1) := dk_97 (dk_at dksX5_isAtMost_6 10 rfl rfl)
theorem dX5_isAtMost_152 : decode cX5_isAtMost 152 = .ok (.lload 22, 2) := dk_22 22 (dk_at dksX5_isAtMost_6 11 rfl rfl)
theorem dX5_isAtMost_154 : decode cX5_isAtMost 154 = .ok (.bipush 32, 2) := dk_16 32 (dk_at dksX5_isAtMost_6 13 rfl rfl)
theorem dX5_isAtMost_156 : decode cX5_isAtMost 156 = .ok (.lushr, 1) := dk_125 (dk_at dksX5_isAtMost_6 15 rfl rfl)
theorem dX5_isAtMost_157 : decode cX5_isAtMost 157 = .ok (.ladd, 1) := dk_97 (dk_at dksX5_isAtMost_6 16 rfl rfl)
theorem dX5_isAtMost_158 : decode cX5_isAtMost 158 = .ok (.lstore 24, 2) := dk_55 24 (dk_at dksX5_isAtMost_6 17 rfl rfl)
theorem dX5_isAtMost_160 : decode cX5_isAtMost 160 = .ok (.lload 24, 2) := dk_22 24 (dk_at dksX5_isAtMost_6 19 rfl rfl)
theorem dX5_isAtMost_162 : decode cX5_isAtMost 162 = .ok (.ldc2_w 32, 3) := dk_20 0 32 (dk_at dksX5_isAtMost_6 21 rfl rfl)
theorem dX5_isAtMost_165 : decode cX5_isAtMost 165 = .ok (.land, 1) := dk_127 (dk_at dksX5_isAtMost_7 0 rfl rfl)
theorem dX5_isAtMost_166 : decode cX5_isAtMost 166 = .ok (.lload 14, 2) := dk_22 14 (dk_at dksX5_isAtMost_7 1 rfl rfl)
theorem dX5_isAtMost_168 : decode cX5_isAtMost 168 = .ok (.lload 6, 2) := dk_22 6 (dk_at dksX5_isAtMost_7 3 rfl rfl)
theorem dX5_isAtMost_170 : decode cX5_isAtMost 170 = .ok (.lmul, 1) := dk_105 (dk_at dksX5_isAtMost_7 5 rfl rfl)
theorem dX5_isAtMost_171 : decode cX5_isAtMost 171 = .ok (.ladd, 1) := dk_97 (dk_at dksX5_isAtMost_7 6 rfl rfl)
theorem dX5_isAtMost_172 : decode cX5_isAtMost 172 = .ok (.lstore 26, 2) := dk_55 26 (dk_at dksX5_isAtMost_7 7 rfl rfl)
theorem dX5_isAtMost_174 : decode cX5_isAtMost 174 = .ok (.lload 12, 2) := dk_22 12 (dk_at dksX5_isAtMost_7 9 rfl rfl)
theorem dX5_isAtMost_176 : decode cX5_isAtMost 176 = .ok (.lload 6, 2) := dk_22 6 (dk_at dksX5_isAtMost_7 11 rfl rfl)
theorem dX5_isAtMost_178 : decode cX5_isAtMost 178 = .ok (.lmul, 1) := dk_105 (dk_at dksX5_isAtMost_7 13 rfl rfl)
theorem dX5_isAtMost_179 : decode cX5_isAtMost 179 = .ok (.lload 24, 2) := dk_22 24 (dk_at dksX5_isAtMost_7 14 rfl rfl)
theorem dX5_isAtMost_181 : decode cX5_isAtMost 181 = .ok (.bipush 32, 2) := dk_16 32 (dk_at dksX5_isAtMost_7 16 rfl rfl)
theorem dX5_isAtMost_183 : decode cX5_isAtMost 183 = .ok (.lushr, 1) := dk_125 (dk_at dksX5_isAtMost_7 18 rfl rfl)
theorem dX5_isAtMost_184 : decode cX5_isAtMost 184 = .ok (.ladd, 1) := dk_97 (dk_at dksX5_isAtMost_7 19 rfl rfl)
theorem dX5_isAtMost_185 : decode cX5_isAtMost 185 = .ok (.lload 26, 2) := dk_22 26 (dk_at dksX5_isAtMost_7 20 rfl rfl)
theorem dX5_isAtMost_187 : decode cX5_isAtMost 187 = .ok (.bipush 32, 2) := dk_16 32 (dk_at dksX5_isAtMost_7 22 rfl rfl)
theorem dX5_isAtMost_189 : decode cX5_isAtMost 189 = .ok (.lushr, 1) := dk_125 (dk_at dksX5_isAtMost_8 0 rfl rfl)
theorem dX5_isAtMost_190 : decode cX5_isAtMost 190 = .ok (.ladd, 1) := dk_97 (dk_at dksX5_isAtMost_8 1 rfl rfl)
theorem dX5_isAtMost_191 : decode cX5_isAtMost 191 = .ok (.lstore 28, 2) := dk_55 28 (dk_at dksX5_isAtMost_8 2 rfl rfl)
theorem dX5_isAtMost_193 : decode cX5_isAtMost 193 = .ok (.lload 18, 2) := dk_22 18 (dk_at dksX5_isAtMost_8 4 rfl rfl)
theorem dX5_isAtMost_195 : decode cX5_isAtMost 195 = .ok (.ldc2_w 32, 3) := dk_20 0 32 (dk_at dksX5_isAtMost_8 6 rfl rfl)
theorem dX5_isAtMost_198 : decode cX5_isAtMost 198 = .ok (.land, 1) := dk_127 (dk_at dksX5_isAtMost_8 9 rfl rfl)
theorem dX5_isAtMost_199 : decode cX5_isAtMost 199 = .ok (.lconst 0, 1) := dk_9 (dk_at dksX5_isAtMost_8 10 rfl rfl)
theorem dX5_isAtMost_200 : decode cX5_isAtMost 200 = .ok (.lcmp, 1) := dk_148 (dk_at dksX5_isAtMost_8 11 rfl rfl)
theorem dX5_isAtMost_201 : decode cX5_isAtMost 201 = .ok (.ifCond .ne 29, 3) := dk_154 0 29 (dk_at dksX5_isAtMost_8 12 rfl rfl)
theorem dX5_isAtMost_204 : decode cX5_isAtMost 204 = .ok (.lload 22, 2) := dk_22 22 (dk_at dksX5_isAtMost_8 15 rfl rfl)
theorem dX5_isAtMost_206 : decode cX5_isAtMost 206 = .ok (.ldc2_w 32, 3) := dk_20 0 32 (dk_at dksX5_isAtMost_8 17 rfl rfl)
theorem dX5_isAtMost_209 : decode cX5_isAtMost 209 = .ok (.land, 1) := dk_127 (dk_at dksX5_isAtMost_8 20 rfl rfl)
theorem dX5_isAtMost_210 : decode cX5_isAtMost 210 = .ok (.lconst 0, 1) := dk_9 (dk_at dksX5_isAtMost_8 21 rfl rfl)
theorem dX5_isAtMost_211 : decode cX5_isAtMost 211 = .ok (.lcmp, 1) := dk_148 (dk_at dksX5_isAtMost_8 22 rfl rfl)
theorem dX5_isAtMost_212 : decode cX5_isAtMost 212 = .ok (.ifCond .ne 18, 3) := dk_154 0 18 (dk_at dksX5_isAtMost_9 0 rfl rfl)
theorem dX5_isAtMost_215 : decode cX5_isAtMost 215 = .ok (.lload 26, 2) := dk_22 26 (dk_at dksX5_isAtMost_9 3 rfl rfl)
theorem dX5_isAtMost_217 : decode cX5_isAtMost 217 = .ok (.ldc2_w 32, 3) := dk_20 0 32 (dk_at dksX5_isAtMost_9 5 rfl rfl)
theorem dX5_isAtMost_220 : decode cX5_isAtMost 220 = .ok (.land, 1) := dk_127 (dk_at dksX5_isAtMost_9 8 rfl rfl)
theorem dX5_isAtMost_221 : decode cX5_isAtMost 221 = .ok (.lconst 0, 1) := dk_9 (dk_at dksX5_isAtMost_9 9 rfl rfl)
theorem dX5_isAtMost_222 : decode cX5_isAtMost 222 = .ok (.lcmp, 1) := dk_148 (dk_at dksX5_isAtMost_9 10 rfl rfl)
theorem dX5_isAtMost_223 : decode cX5_isAtMost 223 = .ok (.ifCond .ne 7, 3) := dk_154 0 7 (dk_at dksX5_isAtMost_9 11 rfl rfl)
theorem dX5_isAtMost_226 : decode cX5_isAtMost 226 = .ok (.iconst 1, 1) := dk_4 (dk_at dksX5_isAtMost_9 14 rfl rfl)
theorem dX5_isAtMost_227 : decode cX5_isAtMost 227 = .ok (.goto 4, 3) := dk_167 0 4 (dk_at dksX5_isAtMost_9 15 rfl rfl)
theorem dX5_isAtMost_230 : decode cX5_isAtMost 230 = .ok (.iconst 0, 1) := dk_3 (dk_at dksX5_isAtMost_9 18 rfl rfl)
theorem dX5_isAtMost_231 : decode cX5_isAtMost 231 = .ok (.istore 30, 2) := dk_54 30 (dk_at dksX5_isAtMost_9 19 rfl rfl)
theorem dX5_isAtMost_233 : decode cX5_isAtMost 233 = .ok (.lload 28, 2) := dk_22 28 (dk_at dksX5_isAtMost_9 21 rfl rfl)
theorem dX5_isAtMost_235 : decode cX5_isAtMost 235 = .ok (.iload_n 3, 1) := dk_29 (dk_at dksX5_isAtMost_9 23 rfl rfl)
theorem dX5_isAtMost_236 : decode cX5_isAtMost 236 = .ok (.i2l, 1) := dk_133 (dk_at dksX5_isAtMost_10 0 rfl rfl)
theorem dX5_isAtMost_237 : decode cX5_isAtMost 237 = .ok (.lcmp, 1) := dk_148 (dk_at dksX5_isAtMost_10 1 rfl rfl)
theorem dX5_isAtMost_238 : decode cX5_isAtMost 238 = .ok (.ifCond .lt 16, 3) := dk_155 0 16 (dk_at dksX5_isAtMost_10 2 rfl rfl)
theorem dX5_isAtMost_241 : decode cX5_isAtMost 241 = .ok (.lload 28, 2) := dk_22 28 (dk_at dksX5_isAtMost_10 5 rfl rfl)
theorem dX5_isAtMost_243 : decode cX5_isAtMost 243 = .ok (.iload_n 3, 1) := dk_29 (dk_at dksX5_isAtMost_10 7 rfl rfl)
theorem dX5_isAtMost_244 : decode cX5_isAtMost 244 = .ok (.i2l, 1) := dk_133 (dk_at dksX5_isAtMost_10 8 rfl rfl)
theorem dX5_isAtMost_245 : decode cX5_isAtMost 245 = .ok (.lcmp, 1) := dk_148 (dk_at dksX5_isAtMost_10 9 rfl rfl)
theorem dX5_isAtMost_246 : decode cX5_isAtMost 246 = .ok (.ifCond .ne 12, 3) := dk_154 0 12 (dk_at dksX5_isAtMost_10 10 rfl rfl)
theorem dX5_isAtMost_249 : decode cX5_isAtMost 249 = .ok (.iload 30, 2) := dk_21 30 (dk_at dksX5_isAtMost_10 13 rfl rfl)
theorem dX5_isAtMost_251 : decode cX5_isAtMost 251 = .ok (.ifCond .eq 7, 3) := dk_153 0 7 (dk_at dksX5_isAtMost_10 15 rfl rfl)
theorem dX5_isAtMost_254 : decode cX5_isAtMost 254 = .ok (.iconst 1, 1) := dk_4 (dk_at dksX5_isAtMost_10 18 rfl rfl)
theorem dX5_isAtMost_255 : decode cX5_isAtMost 255 = .ok (.goto 4, 3) := dk_167 0 4 (dk_at dksX5_isAtMost_10 19 rfl rfl)
theorem dX5_isAtMost_258 : decode cX5_isAtMost 258 = .ok (.iconst 0, 1) := dk_3 (dk_at dksX5_isAtMost_10 22 rfl rfl)
theorem dX5_isAtMost_259 : decode cX5_isAtMost 259 = .ok (.ireturn, 1) := dk_172 (dk_at dksX5_isAtMost_10 23 rfl rfl)
abbrev cX5_next : ByteArray := prog_50_method_2_code
def yX5_next : MethodName := ⟨RX5, "next", "(I)I"⟩
def dkwX5_next_0 : List UInt8 := [26, 4, 96, 60, 27, 184, 0, 24, 154, 0, 9, 132, 1, 1, 167, 255, 246, 27, 172]
abbrev dktX5_next_0 : List UInt8 := dkwX5_next_0 ++ []
theorem dksX5_next_0 : cX5_next.data.toList.drop 0 = dktX5_next_0 := by decide +kernel
theorem dX5_next_0 : decode cX5_next 0 = .ok (.iload_n 0, 1) := dk_26 (dk_at dksX5_next_0 0 rfl rfl)
theorem dX5_next_1 : decode cX5_next 1 = .ok (.iconst 1, 1) := dk_4 (dk_at dksX5_next_0 1 rfl rfl)
theorem dX5_next_2 : decode cX5_next 2 = .ok (.iadd, 1) := dk_96 (dk_at dksX5_next_0 2 rfl rfl)
theorem dX5_next_3 : decode cX5_next 3 = .ok (.istore_n 1, 1) := dk_60 (dk_at dksX5_next_0 3 rfl rfl)
theorem dX5_next_4 : decode cX5_next 4 = .ok (.iload_n 1, 1) := dk_27 (dk_at dksX5_next_0 4 rfl rfl)
theorem dX5_next_5 : decode cX5_next 5 = .ok (.invokestatic 24, 3) := dk_184 0 24 (dk_at dksX5_next_0 5 rfl rfl)
theorem dX5_next_8 : decode cX5_next 8 = .ok (.ifCond .ne 9, 3) := dk_154 0 9 (dk_at dksX5_next_0 8 rfl rfl)
theorem dX5_next_11 : decode cX5_next 11 = .ok (.iinc 1 1, 3) := dk_132 1 1 (dk_at dksX5_next_0 11 rfl rfl)
theorem dX5_next_14 : decode cX5_next 14 = .ok (.goto (-10), 3) := dk_167 255 246 (dk_at dksX5_next_0 14 rfl rfl)
theorem dX5_next_17 : decode cX5_next 17 = .ok (.iload_n 1, 1) := dk_27 (dk_at dksX5_next_0 17 rfl rfl)
theorem dX5_next_18 : decode cX5_next 18 = .ok (.ireturn, 1) := dk_172 (dk_at dksX5_next_0 18 rfl rfl)
abbrev cX5_isPrime : ByteArray := prog_50_method_3_code
def yX5_isPrime : MethodName := ⟨RX5, "isPrime", "(I)Z"⟩
def dkwX5_isPrime_1 : List UInt8 := [26, 28, 112, 153, 0, 7, 4, 167, 0, 4, 3, 60, 132, 2, 1, 167, 255, 230, 27, 172]
abbrev dktX5_isPrime_1 : List UInt8 := dkwX5_isPrime_1 ++ []
def dkwX5_isPrime_0 : List UInt8 := [26, 4, 164, 0, 7, 4, 167, 0, 4, 3, 60, 5, 61, 28, 28, 104, 26, 163, 0, 25, 27, 153, 0, 21]
abbrev dktX5_isPrime_0 : List UInt8 := dkwX5_isPrime_0 ++ dktX5_isPrime_1
theorem dksX5_isPrime_0 : cX5_isPrime.data.toList.drop 0 = dktX5_isPrime_0 := by decide +kernel
theorem dksX5_isPrime_1 : cX5_isPrime.data.toList.drop 24 = dktX5_isPrime_1 := dk_seg dksX5_isPrime_0 24 rfl rfl
theorem dX5_isPrime_0 : decode cX5_isPrime 0 = .ok (.iload_n 0, 1) := dk_26 (dk_at dksX5_isPrime_0 0 rfl rfl)
theorem dX5_isPrime_1 : decode cX5_isPrime 1 = .ok (.iconst 1, 1) := dk_4 (dk_at dksX5_isPrime_0 1 rfl rfl)
theorem dX5_isPrime_2 : decode cX5_isPrime 2 = .ok (.if_icmp .le 7, 3) := dk_164 0 7 (dk_at dksX5_isPrime_0 2 rfl rfl)
theorem dX5_isPrime_5 : decode cX5_isPrime 5 = .ok (.iconst 1, 1) := dk_4 (dk_at dksX5_isPrime_0 5 rfl rfl)
theorem dX5_isPrime_6 : decode cX5_isPrime 6 = .ok (.goto 4, 3) := dk_167 0 4 (dk_at dksX5_isPrime_0 6 rfl rfl)
theorem dX5_isPrime_9 : decode cX5_isPrime 9 = .ok (.iconst 0, 1) := dk_3 (dk_at dksX5_isPrime_0 9 rfl rfl)
theorem dX5_isPrime_10 : decode cX5_isPrime 10 = .ok (.istore_n 1, 1) := dk_60 (dk_at dksX5_isPrime_0 10 rfl rfl)
theorem dX5_isPrime_11 : decode cX5_isPrime 11 = .ok (.iconst 2, 1) := dk_5 (dk_at dksX5_isPrime_0 11 rfl rfl)
theorem dX5_isPrime_12 : decode cX5_isPrime 12 = .ok (.istore_n 2, 1) := dk_61 (dk_at dksX5_isPrime_0 12 rfl rfl)
theorem dX5_isPrime_13 : decode cX5_isPrime 13 = .ok (.iload_n 2, 1) := dk_28 (dk_at dksX5_isPrime_0 13 rfl rfl)
theorem dX5_isPrime_14 : decode cX5_isPrime 14 = .ok (.iload_n 2, 1) := dk_28 (dk_at dksX5_isPrime_0 14 rfl rfl)
theorem dX5_isPrime_15 : decode cX5_isPrime 15 = .ok (.imul, 1) := dk_104 (dk_at dksX5_isPrime_0 15 rfl rfl)
theorem dX5_isPrime_16 : decode cX5_isPrime 16 = .ok (.iload_n 0, 1) := dk_26 (dk_at dksX5_isPrime_0 16 rfl rfl)
theorem dX5_isPrime_17 : decode cX5_isPrime 17 = .ok (.if_icmp .gt 25, 3) := dk_163 0 25 (dk_at dksX5_isPrime_0 17 rfl rfl)
theorem dX5_isPrime_20 : decode cX5_isPrime 20 = .ok (.iload_n 1, 1) := dk_27 (dk_at dksX5_isPrime_0 20 rfl rfl)
theorem dX5_isPrime_21 : decode cX5_isPrime 21 = .ok (.ifCond .eq 21, 3) := dk_153 0 21 (dk_at dksX5_isPrime_0 21 rfl rfl)
theorem dX5_isPrime_24 : decode cX5_isPrime 24 = .ok (.iload_n 0, 1) := dk_26 (dk_at dksX5_isPrime_1 0 rfl rfl)
theorem dX5_isPrime_25 : decode cX5_isPrime 25 = .ok (.iload_n 2, 1) := dk_28 (dk_at dksX5_isPrime_1 1 rfl rfl)
theorem dX5_isPrime_26 : decode cX5_isPrime 26 = .ok (.irem, 1) := dk_112 (dk_at dksX5_isPrime_1 2 rfl rfl)
theorem dX5_isPrime_27 : decode cX5_isPrime 27 = .ok (.ifCond .eq 7, 3) := dk_153 0 7 (dk_at dksX5_isPrime_1 3 rfl rfl)
theorem dX5_isPrime_30 : decode cX5_isPrime 30 = .ok (.iconst 1, 1) := dk_4 (dk_at dksX5_isPrime_1 6 rfl rfl)
theorem dX5_isPrime_31 : decode cX5_isPrime 31 = .ok (.goto 4, 3) := dk_167 0 4 (dk_at dksX5_isPrime_1 7 rfl rfl)
theorem dX5_isPrime_34 : decode cX5_isPrime 34 = .ok (.iconst 0, 1) := dk_3 (dk_at dksX5_isPrime_1 10 rfl rfl)
theorem dX5_isPrime_35 : decode cX5_isPrime 35 = .ok (.istore_n 1, 1) := dk_60 (dk_at dksX5_isPrime_1 11 rfl rfl)
theorem dX5_isPrime_36 : decode cX5_isPrime 36 = .ok (.iinc 2 1, 3) := dk_132 2 1 (dk_at dksX5_isPrime_1 12 rfl rfl)
theorem dX5_isPrime_39 : decode cX5_isPrime 39 = .ok (.goto (-26), 3) := dk_167 255 230 (dk_at dksX5_isPrime_1 15 rfl rfl)
theorem dX5_isPrime_42 : decode cX5_isPrime 42 = .ok (.iload_n 1, 1) := dk_27 (dk_at dksX5_isPrime_1 18 rfl rfl)
theorem dX5_isPrime_43 : decode cX5_isPrime 43 = .ok (.ireturn, 1) := dk_172 (dk_at dksX5_isPrime_1 19 rfl rfl)
theorem q397 : (Jvm.Cond.initialized "WasteHouse$TicketChain$Fixed") ∈ lw_all := lw_g (lw_at lw_m1 5 rfl) rfl
theorem q529 : (Jvm.Cond.instantiable "WasteHouse$TicketChain$Fixed" (2 : Nat)) ∈ lw_all := lw_g (lw_at lw_m1 137 rfl) rfl
theorem q531 : (Jvm.Cond.instanceMethod ({ cls := "WasteHouse$TicketChain$Fixed", name := "<init>", desc := "()V" } : Jvm.MethodName)) ∈ lw_all := lw_g (lw_at lw_m1 139 rfl) rfl
theorem q532 : (Jvm.Cond.code ({ cls := "WasteHouse$TicketChain$Fixed", name := "<init>", desc := "()V" } : Jvm.MethodName) prog_50_method_1_code (3 : Nat) (Option.none : Option Jvm.ClassFile.FieldType)) ∈ lw_all := lw_g (lw_at lw_m1 140 rfl) rfl
theorem q533 : (Jvm.Cond.methodLink "WasteHouse$TicketChain$Fixed" (1 : Nat) ({ cls := "java/lang/Object", name := "<init>", desc := "()V" } : Jvm.MethodName)) ∈ lw_all := lw_g (lw_at lw_m1 141 rfl) rfl
theorem q534 : (Jvm.Cond.methodLink "WasteHouse$TicketChain$Fixed" (16 : Nat) ({ cls := "WasteHouse$TicketChain$Fixed", name := "root", desc := "(II)I" } : Jvm.MethodName)) ∈ lw_all := lw_g (lw_at lw_m1 142 rfl) rfl
theorem q535 : (Jvm.Cond.static ({ cls := "WasteHouse$TicketChain$Fixed", name := "root", desc := "(II)I" } : Jvm.MethodName)) ∈ lw_all := lw_g (lw_at lw_m1 143 rfl) rfl
theorem q536 : (Jvm.Cond.code ({ cls := "WasteHouse$TicketChain$Fixed", name := "root", desc := "(II)I" } : Jvm.MethodName) prog_50_method_4_code (7 : Nat) (Option.some Jvm.ClassFile.FieldType.int)) ∈ lw_all := lw_g (lw_at lw_m1 144 rfl) rfl
theorem q537 : (Jvm.Cond.methodLink "WasteHouse$TicketChain$Fixed" (28 : Nat) ({ cls := "WasteHouse$TicketChain$Fixed", name := "isAtMost", desc := "(JII)Z" } : Jvm.MethodName)) ∈ lw_all := lw_g (lw_at lw_m1 145 rfl) rfl
theorem q538 : (Jvm.Cond.static ({ cls := "WasteHouse$TicketChain$Fixed", name := "isAtMost", desc := "(JII)Z" } : Jvm.MethodName)) ∈ lw_all := lw_g (lw_at lw_m1 146 rfl) rfl
theorem q539 : (Jvm.Cond.code ({ cls := "WasteHouse$TicketChain$Fixed", name := "isAtMost", desc := "(JII)Z" } : Jvm.MethodName) prog_50_method_5_code (31 : Nat) (Option.some Jvm.ClassFile.FieldType.boolean)) ∈ lw_all := lw_g (lw_at lw_m1 147 rfl) rfl
theorem q540 : (Jvm.Cond.constantLong "WasteHouse$TicketChain$Fixed" (32 : Nat) (4294967295 : Int64)) ∈ lw_all := lw_g (lw_at lw_m1 148 rfl) rfl
theorem q541 : (Jvm.Cond.constantLong "WasteHouse$TicketChain$Fixed" (34 : Nat) (2 : Int64)) ∈ lw_all := lw_g (lw_at lw_m1 149 rfl) rfl
theorem q542 : (Jvm.Cond.methodLink "WasteHouse$TicketChain$Fixed" (20 : Nat) ({ cls := "WasteHouse$TicketChain$Fixed", name := "next", desc := "(I)I" } : Jvm.MethodName)) ∈ lw_all := lw_g (lw_at lw_m1 150 rfl) rfl
theorem q543 : (Jvm.Cond.static ({ cls := "WasteHouse$TicketChain$Fixed", name := "next", desc := "(I)I" } : Jvm.MethodName)) ∈ lw_all := lw_g (lw_at lw_m1 151 rfl) rfl
theorem q544 : (Jvm.Cond.code ({ cls := "WasteHouse$TicketChain$Fixed", name := "next", desc := "(I)I" } : Jvm.MethodName) prog_50_method_2_code (2 : Nat) (Option.some Jvm.ClassFile.FieldType.int)) ∈ lw_all := lw_g (lw_at lw_m1 152 rfl) rfl
theorem q545 : (Jvm.Cond.methodLink "WasteHouse$TicketChain$Fixed" (24 : Nat) ({ cls := "WasteHouse$TicketChain$Fixed", name := "isPrime", desc := "(I)Z" } : Jvm.MethodName)) ∈ lw_all := lw_g (lw_at lw_m1 153 rfl) rfl
theorem q546 : (Jvm.Cond.static ({ cls := "WasteHouse$TicketChain$Fixed", name := "isPrime", desc := "(I)Z" } : Jvm.MethodName)) ∈ lw_all := lw_g (lw_at lw_m1 154 rfl) rfl
theorem q547 : (Jvm.Cond.code ({ cls := "WasteHouse$TicketChain$Fixed", name := "isPrime", desc := "(I)Z" } : Jvm.MethodName) prog_50_method_3_code (3 : Nat) (Option.some Jvm.ClassFile.FieldType.boolean)) ∈ lw_all := lw_g (lw_at lw_m1 155 rfl) rfl
theorem q548 : (Jvm.Cond.fieldLink "WasteHouse$TicketChain$Fixed" (7 : Nat) "WasteHouse$TicketChain$Fixed" "cubes" "[I") ∈ lw_all := lw_g (lw_at lw_m1 156 rfl) rfl
theorem q550 : (Jvm.Cond.fieldLink "WasteHouse$TicketChain$Fixed" (13 : Nat) "WasteHouse$TicketChain$Fixed" "squares" "[I") ∈ lw_all := lw_g (lw_at lw_m1 158 rfl) rfl
theorem q552 : (Jvm.Cond.laysFinal "WasteHouse$TicketChain$Fixed" "WasteHouse$TicketChain$Fixed" "cubes" "[I") ∈ lw_all := lw_g (lw_at lw_m1 160 rfl) rfl
theorem q553 : (Jvm.Cond.soleField "WasteHouse$TicketChain$Fixed" "cubes") ∈ lw_all := lw_g (lw_at lw_m1 161 rfl) rfl
theorem q554 : (Jvm.Cond.laysFinal "WasteHouse$TicketChain$Fixed" "WasteHouse$TicketChain$Fixed" "squares" "[I") ∈ lw_all := lw_g (lw_at lw_m1 162 rfl) rfl
theorem q555 : (Jvm.Cond.soleField "WasteHouse$TicketChain$Fixed" "squares") ∈ lw_all := lw_g (lw_at lw_m1 163 rfl) rfl
theorem q556 : (Jvm.Cond.superclass "WasteHouse$TicketChain$Fixed" "java/lang/Object") ∈ lw_all := lw_g (lw_at lw_m1 164 rfl) rfl
theorem q2019 : (Jvm.Cond.selects "WasteHouse$TicketChain$Fixed" ({ cls := "java/lang/Object", name := "getClass", desc := "()Ljava/lang/Class;" } : Jvm.MethodName) ({ cls := "java/lang/Object", name := "getClass", desc := "()Ljava/lang/Class;" } : Jvm.MethodName)) ∈ lw_all := lw_g (lw_at lw_m7 187 rfl) rfl
theorem q3129 : (Jvm.Cond.selects "WasteHouse$TicketChain$Fixed" ({ cls := "java/lang/Object", name := "equals", desc := "(Ljava/lang/Object;)Z" } : Jvm.MethodName) ({ cls := "java/lang/Object", name := "equals", desc := "(Ljava/lang/Object;)Z" } : Jvm.MethodName)) ∈ lw_all := lw_g (lw_at lw_m12 97 rfl) rfl
theorem q3647 : (Jvm.Cond.selects "WasteHouse$TicketChain$Fixed" ({ cls := "java/lang/Object", name := "hashCode", desc := "()I" } : Jvm.MethodName) ({ cls := "java/lang/Object", name := "hashCode", desc := "()I" } : Jvm.MethodName)) ∈ lw_all := lw_g (lw_at lw_m14 135 rfl) rfl
theorem q9634 : (Jvm.Cond.castable "WasteHouse$TicketChain$Fixed" "java/lang/Object") ∈ lw_tbl := lw_at lw_m39 122 rfl
theorem in_X5 : ∀ w ∈ wsX50, w ∈ lw_all := lw_in wsX50 [552, 554] (by decide +kernel) (by decide +kernel)
