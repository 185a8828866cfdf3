/-! WasteHouse$PartGraphs$Product -/
set_option maxRecDepth 100000
def RX25 : String := "WasteHouse$PartGraphs$Product"
def TX25 : u_T := fun k => match k with
  | 0 => ("WasteHouse$PartGraphs$Product", "count", "I", false)
  | 1 => ("WasteHouse$PartGraphs$Product", "parts", "[LWasteHouse$PartGraphs$Part;", true)
  | 2 => ("WasteHouse$PartGraphs$Product", "fastenings", "I", false)
  | 3 => ("WasteHouse$PartGraphs$Product", "as", "[B", true)
  | 4 => ("WasteHouse$PartGraphs$Product", "bs", "[B", true)
  | _ => ("WasteHouse$PartGraphs$Product", "kinds", "[B", true)
def tyX25 : Nat → FieldType := fun k => match k with
  | 0 => .int
  | 1 => .array (.object "WasteHouse$PartGraphs$Part")
  | 2 => .int
  | 3 => .array .byte
  | 4 => .array .byte
  | _ => .array .byte
abbrev wsX250 : List Cond := u_ws RX25 TX25 6
theorem nmX25 : ∀ a, a < 6 → ∀ b, b < 6 → a ≠ b → (TX25 a).2.1 ≠ (TX25 b).2.1 := by decide +kernel
theorem tyX25_ok : ∀ k, k < 6 → parseFieldDescriptor (TX25 k).2.2.1 = some (tyX25 k) := by decide +kernel
abbrev cX25_init : ByteArray := prog_29_method_1_code
def yX25_init : MethodName := ⟨RX25, "<init>", "()V"⟩
def dkwX25_init_2 : List UInt8 := [180, 0, 11, 27, 187, 0, 9, 89, 183, 0, 27, 83, 132, 1, 1, 167, 255, 234, 177]
abbrev dktX25_init_2 : List UInt8 := dkwX25_init_2 ++ []
def dkwX25_init_1 : List UInt8 := [188, 8, 181, 0, 21, 42, 16, 20, 188, 8, 181, 0, 24, 3, 60, 27, 16, 10, 162, 0, 22, 42]
abbrev dktX25_init_1 : List UInt8 := dkwX25_init_1 ++ dktX25_init_2
def dkwX25_init_0 : List UInt8 := [42, 183, 0, 3, 42, 16, 10, 189, 0, 9, 181, 0, 11, 42, 16, 20, 188, 8, 181, 0, 17, 42, 16, 20]
abbrev dktX25_init_0 : List UInt8 := dkwX25_init_0 ++ dktX25_init_1
theorem dksX25_init_0 : cX25_init.data.toList.drop 0 = dktX25_init_0 := by decide +kernel
theorem dksX25_init_1 : cX25_init.data.toList.drop 24 = dktX25_init_1 := dk_seg dksX25_init_0 24 rfl rfl
theorem dksX25_init_2 : cX25_init.data.toList.drop 46 = dktX25_init_2 := dk_seg dksX25_init_1 22 rfl rfl
theorem dX25_init_0 : decode cX25_init 0 = .ok (.aload_n 0, 1) := dk_42 (dk_at dksX25_init_0 0 rfl rfl)
theorem dX25_init_1 : decode cX25_init 1 = .ok (.invokespecial 3, 3) := dk_183 0 3 (dk_at dksX25_init_0 1 rfl rfl)
theorem dX25_init_4 : decode cX25_init 4 = .ok (.aload_n 0, 1) := dk_42 (dk_at dksX25_init_0 4 rfl rfl)
theorem dX25_init_5 : decode cX25_init 5 = .ok (.bipush 10, 2) := dk_16 10 (dk_at dksX25_init_0 5 rfl rfl)
theorem dX25_init_7 : decode cX25_init 7 = .ok (.anewarray 9, 3) := dk_189 0 9 (dk_at dksX25_init_0 7 rfl rfl)
theorem dX25_init_10 : decode cX25_init 10 = .ok (.putfield 11, 3) := dk_181 0 11 (dk_at dksX25_init_0 10 rfl rfl)
theorem dX25_init_13 : decode cX25_init 13 = .ok (.aload_n 0, 1) := dk_42 (dk_at dksX25_init_0 13 rfl rfl)
theorem dX25_init_14 : decode cX25_init 14 = .ok (.bipush 20, 2) := dk_16 20 (dk_at dksX25_init_0 14 rfl rfl)
theorem dX25_init_16 : decode cX25_init 16 = .ok (.newarray .byte, 2) := dk_188_8 (dk_at dksX25_init_0 16 rfl rfl)
theorem dX25_init_18 : decode cX25_init 18 = .ok (.putfield 17, 3) := dk_181 0 17 (dk_at dksX25_init_0 18 rfl rfl)
theorem dX25_init_21 : decode cX25_init 21 = .ok (.aload_n 0, 1) := dk_42 (dk_at dksX25_init_0 21 rfl rfl)
theorem dX25_init_22 : decode cX25_init 22 = .ok (.bipush 20, 2) := dk_16 20 (dk_at dksX25_init_0 22 rfl rfl)
theorem dX25_init_24 : decode cX25_init 24 = .ok (.newarray .byte, 2) := dk_188_8 (dk_at dksX25_init_1 0 rfl rfl)
theorem dX25_init_26 : decode cX25_init 26 = .ok (.putfield 21, 3) := dk_181 0 21 (dk_at dksX25_init_1 2 rfl rfl)
theorem dX25_init_29 : decode cX25_init 29 = .ok (.aload_n 0, 1) := dk_42 (dk_at dksX25_init_1 5 rfl rfl)
theorem dX25_init_30 : decode cX25_init 30 = .ok (.bipush 20, 2) := dk_16 20 (dk_at dksX25_init_1 6 rfl rfl)
theorem dX25_init_32 : decode cX25_init 32 = .ok (.newarray .byte, 2) := dk_188_8 (dk_at dksX25_init_1 8 rfl rfl)
theorem dX25_init_34 : decode cX25_init 34 = .ok (.putfield 24, 3) := dk_181 0 24 (dk_at dksX25_init_1 10 rfl rfl)
theorem dX25_init_37 : decode cX25_init 37 = .ok (.iconst 0, 1) := dk_3 (dk_at dksX25_init_1 13 rfl rfl)
theorem dX25_init_38 : decode cX25_init 38 = .ok (.istore_n 1, 1) := dk_60 (dk_at dksX25_init_1 14 rfl rfl)
theorem dX25_init_39 : decode cX25_init 39 = .ok (.iload_n 1, 1) := dk_27 (dk_at dksX25_init_1 15 rfl rfl)
theorem dX25_init_40 : decode cX25_init 40 = .ok (.bipush 10, 2) := dk_16 10 (dk_at dksX25_init_1 16 rfl rfl)
theorem dX25_init_42 : decode cX25_init 42 = .ok (.if_icmp .ge 22, 3) := dk_162 0 22 (dk_at dksX25_init_1 18 rfl rfl)
theorem dX25_init_45 : decode cX25_init 45 = .ok (.aload_n 0, 1) := dk_42 (dk_at dksX25_init_1 21 rfl rfl)
theorem dX25_init_46 : decode cX25_init 46 = .ok (.getfield 11, 3) := dk_180 0 11 (dk_at dksX25_init_2 0 rfl rfl)
theorem dX25_init_49 : decode cX25_init 49 = .ok (.iload_n 1, 1) := dk_27 (dk_at dksX25_init_2 3 rfl rfl)
theorem dX25_init_50 : decode cX25_init 50 = .ok (.new 9, 3) := dk_187 0 9 (dk_at dksX25_init_2 4 rfl rfl)
theorem dX25_init_53 : decode cX25_init 53 = .ok (.dup, 1) := dk_89 (dk_at dksX25_init_2 7 rfl rfl)
theorem dX25_init_54 : decode cX25_init 54 = .ok (.invokespecial 27, 3) := dk_183 0 27 (dk_at dksX25_init_2 8 rfl rfl)
theorem dX25_init_57 : decode cX25_init 57 = .ok (.aastore, 1) := dk_83 (dk_at dksX25_init_2 11 rfl rfl)
theorem dX25_init_58 : decode cX25_init 58 = .ok (.iinc 1 1, 3) := dk_132 1 1 (dk_at dksX25_init_2 12 rfl rfl)
theorem dX25_init_61 : decode cX25_init 61 = .ok (.goto (-22), 3) := dk_167 255 234 (dk_at dksX25_init_2 15 rfl rfl)
theorem dX25_init_64 : decode cX25_init 64 = .ok (.return_, 1) := dk_177 (dk_at dksX25_init_2 18 rfl rfl)
abbrev cX25_comesOff : ByteArray := prog_29_method_14_code
def yX25_comesOff : MethodName := ⟨RX25, "comesOff", "(I)I"⟩
def dkwX25_comesOff_2 : List UInt8 := [153, 0, 12, 28, 4, 21, 4, 120, 128, 61, 4, 62, 132, 4, 1, 167, 255, 206, 167, 255, 194, 28, 172]
abbrev dktX25_comesOff_2 : List UInt8 := dkwX25_comesOff_2 ++ []
def dkwX25_comesOff_1 : List UInt8 := [27, 159, 0, 35, 28, 21, 4, 122, 4, 126, 154, 0, 26, 42, 180, 0, 11, 21, 4, 50, 28, 182, 0, 85]
abbrev dktX25_comesOff_1 : List UInt8 := dkwX25_comesOff_1 ++ dktX25_comesOff_2
def dkwX25_comesOff_0 : List UInt8 := [3, 61, 4, 62, 29, 153, 0, 64, 3, 62, 3, 54, 4, 21, 4, 42, 180, 0, 28, 162, 0, 47, 21, 4]
abbrev dktX25_comesOff_0 : List UInt8 := dkwX25_comesOff_0 ++ dktX25_comesOff_1
theorem dksX25_comesOff_0 : cX25_comesOff.data.toList.drop 0 = dktX25_comesOff_0 := by decide +kernel
theorem dksX25_comesOff_1 : cX25_comesOff.data.toList.drop 24 = dktX25_comesOff_1 := dk_seg dksX25_comesOff_0 24 rfl rfl
theorem dksX25_comesOff_2 : cX25_comesOff.data.toList.drop 48 = dktX25_comesOff_2 := dk_seg dksX25_comesOff_1 24 rfl rfl
theorem dX25_comesOff_0 : decode cX25_comesOff 0 = .ok (.iconst 0, 1) := dk_3 (dk_at dksX25_comesOff_0 0 rfl rfl)
theorem dX25_comesOff_1 : decode cX25_comesOff 1 = .ok (.istore_n 2, 1) := dk_61 (dk_at dksX25_comesOff_0 1 rfl rfl)
theorem dX25_comesOff_2 : decode cX25_comesOff 2 = .ok (.iconst 1, 1) := dk_4 (dk_at dksX25_comesOff_0 2 rfl rfl)
theorem dX25_comesOff_3 : decode cX25_comesOff 3 = .ok (.istore_n 3, 1) := dk_62 (dk_at dksX25_comesOff_0 3 rfl rfl)
theorem dX25_comesOff_4 : decode cX25_comesOff 4 = .ok (.iload_n 3, 1) := dk_29 (dk_at dksX25_comesOff_0 4 rfl rfl)
theorem dX25_comesOff_5 : decode cX25_comesOff 5 = .ok (.ifCond .eq 64, 3) := dk_153 0 64 (dk_at dksX25_comesOff_0 5 rfl rfl)
theorem dX25_comesOff_8 : decode cX25_comesOff 8 = .ok (.iconst 0, 1) := dk_3 (dk_at dksX25_comesOff_0 8 rfl rfl)
theorem dX25_comesOff_9 : decode cX25_comesOff 9 = .ok (.istore_n 3, 1) := dk_62 (dk_at dksX25_comesOff_0 9 rfl rfl)
theorem dX25_comesOff_10 : decode cX25_comesOff 10 = .ok (.iconst 0, 1) := dk_3 (dk_at dksX25_comesOff_0 10 rfl rfl)
theorem dX25_comesOff_11 : decode cX25_comesOff 11 = .ok (.istore 4, 2) := dk_54 4 (dk_at dksX25_comesOff_0 11 rfl rfl)
theorem dX25_comesOff_13 : decode cX25_comesOff 13 = .ok (.iload 4, 2) := dk_21 4 (dk_at dksX25_comesOff_0 13 rfl rfl)
theorem dX25_comesOff_15 : decode cX25_comesOff 15 = .ok (.aload_n 0, 1) := dk_42 (dk_at dksX25_comesOff_0 15 rfl rfl)
theorem dX25_comesOff_16 : decode cX25_comesOff 16 = .ok (.getfield 28, 3) := dk_180 0 28 (dk_at dksX25_comesOff_0 16 rfl rfl)
theorem dX25_comesOff_19 : decode cX25_comesOff 19 = .ok (.if_icmp .ge 47, 3) := dk_162 0 47 (dk_at dksX25_comesOff_0 19 rfl rfl)
theorem dX25_comesOff_22 : decode cX25_comesOff 22 = .ok (.iload 4, 2) := dk_21 4 (dk_at dksX25_comesOff_0 22 rfl rfl)
theorem dX25_comesOff_24 : decode cX25_comesOff 24 = .ok (.iload_n 1, 1) := dk_27 (dk_at dksX25_comesOff_1 0 rfl rfl)
theorem dX25_comesOff_25 : decode cX25_comesOff 25 = .ok (.if_icmp .eq 35, 3) := dk_159 0 35 (dk_at dksX25_comesOff_1 1 rfl rfl)
theorem dX25_comesOff_28 : decode cX25_comesOff 28 = .ok (.iload_n 2, 1) := dk_28 (dk_at dksX25_comesOff_1 4 rfl rfl)
theorem dX25_comesOff_29 : decode cX25_comesOff 29 = .ok (.iload 4, 2) := dk_21 4 (dk_at dksX25_comesOff_1 5 rfl rfl)
theorem dX25_comesOff_31 : decode cX25_comesOff 31 = .ok (.ishr, 1) := dk_122 (dk_at dksX25_comesOff_1 7 rfl rfl)
theorem dX25_comesOff_32 : decode cX25_comesOff 32 = .ok (.iconst 1, 1) := dk_4 (dk_at dksX25_comesOff_1 8 rfl rfl)
theorem dX25_comesOff_33 : decode cX25_comesOff 33 = .ok (.iand, 1) := dk_126 (dk_at dksX25_comesOff_1 9 rfl rfl)
theorem dX25_comesOff_34 : decode cX25_comesOff 34 = .ok (.ifCond .ne 26, 3) := dk_154 0 26 (dk_at dksX25_comesOff_1 10 rfl rfl)
theorem dX25_comesOff_37 : decode cX25_comesOff 37 = .ok (.aload_n 0, 1) := dk_42 (dk_at dksX25_comesOff_1 13 rfl rfl)
theorem dX25_comesOff_38 : decode cX25_comesOff 38 = .ok (.getfield 11, 3) := dk_180 0 11 (dk_at dksX25_comesOff_1 14 rfl rfl)
theorem dX25_comesOff_41 : decode cX25_comesOff 41 = .ok (.iload 4, 2) := dk_21 4 (dk_at dksX25_comesOff_1 17 rfl rfl)
theorem dX25_comesOff_43 : decode cX25_comesOff 43 = .ok (.aaload, 1) := dk_50 (dk_at dksX25_comesOff_1 19 rfl rfl)
theorem dX25_comesOff_44 : decode cX25_comesOff 44 = .ok (.iload_n 2, 1) := dk_28 (dk_at dksX25_comesOff_1 20 rfl rfl)
theorem dX25_comesOff_45 : decode cX25_comesOff 45 = .ok (.invokevirtual 85, 3) := dk_182 0 85 (dk_at dksX25_comesOff_1 21 rfl rfl)
theorem dX25_comesOff_48 : decode cX25_comesOff 48 = .ok (.ifCond .eq 12, 3) := dk_153 0 12 (dk_at dksX25_comesOff_2 0 rfl rfl)
theorem dX25_comesOff_51 : decode cX25_comesOff 51 = .ok (.iload_n 2, 1) := dk_28 (dk_at dksX25_comesOff_2 3 rfl rfl)
theorem dX25_comesOff_52 : decode cX25_comesOff 52 = .ok (.iconst 1, 1) := dk_4 (dk_at dksX25_comesOff_2 4 rfl rfl)
theorem dX25_comesOff_53 : decode cX25_comesOff 53 = .ok (.iload 4, 2) := dk_21 4 (dk_at dksX25_comesOff_2 5 rfl rfl)
theorem dX25_comesOff_55 : decode cX25_comesOff 55 = .ok (.ishl, 1) := dk_120 (dk_at dksX25_comesOff_2 7 rfl rfl)
theorem dX25_comesOff_56 : decode cX25_comesOff 56 = .ok (.ior, 1) := dk_128 (dk_at dksX25_comesOff_2 8 rfl rfl)
theorem dX25_comesOff_57 : decode cX25_comesOff 57 = .ok (.istore_n 2, 1) := dk_61 (dk_at dksX25_comesOff_2 9 rfl rfl)
theorem dX25_comesOff_58 : decode cX25_comesOff 58 = .ok (.iconst 1, 1) := dk_4 (dk_at dksX25_comesOff_2 10 rfl rfl)
theorem dX25_comesOff_59 : decode cX25_comesOff 59 = .ok (.istore_n 3, 1) := dk_62 (dk_at dksX25_comesOff_2 11 rfl rfl)
theorem dX25_comesOff_60 : decode cX25_comesOff 60 = .ok (.iinc 4 1, 3) := dk_132 4 1 (dk_at dksX25_comesOff_2 12 rfl rfl)
theorem dX25_comesOff_63 : decode cX25_comesOff 63 = .ok (.goto (-50), 3) := dk_167 255 206 (dk_at dksX25_comesOff_2 15 rfl rfl)
theorem dX25_comesOff_66 : decode cX25_comesOff 66 = .ok (.goto (-62), 3) := dk_167 255 194 (dk_at dksX25_comesOff_2 18 rfl rfl)
theorem dX25_comesOff_69 : decode cX25_comesOff 69 = .ok (.iload_n 2, 1) := dk_28 (dk_at dksX25_comesOff_2 21 rfl rfl)
theorem dX25_comesOff_70 : decode cX25_comesOff 70 = .ok (.ireturn, 1) := dk_172 (dk_at dksX25_comesOff_2 22 rfl rfl)
abbrev cX25_isPart : ByteArray := prog_29_method_4_code
def yX25_isPart : MethodName := ⟨RX25, "isPart", "(J)Z"⟩
def dkwX25_isPart_0 : List UInt8 := [31, 9, 148, 155, 0, 17, 31, 42, 180, 0, 28, 133, 148, 156, 0, 7, 4, 167, 0, 4, 3, 172]
abbrev dktX25_isPart_0 : List UInt8 := dkwX25_isPart_0 ++ []
theorem dksX25_isPart_0 : cX25_isPart.data.toList.drop 0 = dktX25_isPart_0 := by decide +kernel
theorem dX25_isPart_0 : decode cX25_isPart 0 = .ok (.lload_n 1, 1) := dk_31 (dk_at dksX25_isPart_0 0 rfl rfl)
theorem dX25_isPart_1 : decode cX25_isPart 1 = .ok (.lconst 0, 1) := dk_9 (dk_at dksX25_isPart_0 1 rfl rfl)
theorem dX25_isPart_2 : decode cX25_isPart 2 = .ok (.lcmp, 1) := dk_148 (dk_at dksX25_isPart_0 2 rfl rfl)
theorem dX25_isPart_3 : decode cX25_isPart 3 = .ok (.ifCond .lt 17, 3) := dk_155 0 17 (dk_at dksX25_isPart_0 3 rfl rfl)
theorem dX25_isPart_6 : decode cX25_isPart 6 = .ok (.lload_n 1, 1) := dk_31 (dk_at dksX25_isPart_0 6 rfl rfl)
theorem dX25_isPart_7 : decode cX25_isPart 7 = .ok (.aload_n 0, 1) := dk_42 (dk_at dksX25_isPart_0 7 rfl rfl)
theorem dX25_isPart_8 : decode cX25_isPart 8 = .ok (.getfield 28, 3) := dk_180 0 28 (dk_at dksX25_isPart_0 8 rfl rfl)
theorem dX25_isPart_11 : decode cX25_isPart 11 = .ok (.i2l, 1) := dk_133 (dk_at dksX25_isPart_0 11 rfl rfl)
theorem dX25_isPart_12 : decode cX25_isPart 12 = .ok (.lcmp, 1) := dk_148 (dk_at dksX25_isPart_0 12 rfl rfl)
theorem dX25_isPart_13 : decode cX25_isPart 13 = .ok (.ifCond .ge 7, 3) := dk_156 0 7 (dk_at dksX25_isPart_0 13 rfl rfl)
theorem dX25_isPart_16 : decode cX25_isPart 16 = .ok (.iconst 1, 1) := dk_4 (dk_at dksX25_isPart_0 16 rfl rfl)
theorem dX25_isPart_17 : decode cX25_isPart 17 = .ok (.goto 4, 3) := dk_167 0 4 (dk_at dksX25_isPart_0 17 rfl rfl)
theorem dX25_isPart_20 : decode cX25_isPart 20 = .ok (.iconst 0, 1) := dk_3 (dk_at dksX25_isPart_0 20 rfl rfl)
theorem dX25_isPart_21 : decode cX25_isPart 21 = .ok (.ireturn, 1) := dk_172 (dk_at dksX25_isPart_0 21 rfl rfl)
abbrev cX25_clear : ByteArray := prog_29_method_2_code
def yX25_clear : MethodName := ⟨RX25, "clear", "()V"⟩
def dkwX25_clear_0 : List UInt8 := [42, 3, 181, 0, 28, 42, 3, 181, 0, 32, 177]
abbrev dktX25_clear_0 : List UInt8 := dkwX25_clear_0 ++ []
theorem dksX25_clear_0 : cX25_clear.data.toList.drop 0 = dktX25_clear_0 := by decide +kernel
theorem dX25_clear_0 : decode cX25_clear 0 = .ok (.aload_n 0, 1) := dk_42 (dk_at dksX25_clear_0 0 rfl rfl)
theorem dX25_clear_1 : decode cX25_clear 1 = .ok (.iconst 0, 1) := dk_3 (dk_at dksX25_clear_0 1 rfl rfl)
theorem dX25_clear_2 : decode cX25_clear 2 = .ok (.putfield 28, 3) := dk_181 0 28 (dk_at dksX25_clear_0 2 rfl rfl)
theorem dX25_clear_5 : decode cX25_clear 5 = .ok (.aload_n 0, 1) := dk_42 (dk_at dksX25_clear_0 5 rfl rfl)
theorem dX25_clear_6 : decode cX25_clear 6 = .ok (.iconst 0, 1) := dk_3 (dk_at dksX25_clear_0 6 rfl rfl)
theorem dX25_clear_7 : decode cX25_clear 7 = .ok (.putfield 32, 3) := dk_181 0 32 (dk_at dksX25_clear_0 7 rfl rfl)
theorem dX25_clear_10 : decode cX25_clear 10 = .ok (.return_, 1) := dk_177 (dk_at dksX25_clear_0 10 rfl rfl)
abbrev cX25_part : ByteArray := prog_29_method_6_code
def yX25_part : MethodName := ⟨RX25, "part", "(JJ)I"⟩
def dkwX25_part_2 : List UInt8 := [31, 136, 33, 136, 182, 0, 53, 42, 89, 180, 0, 28, 90, 4, 96, 181, 0, 28, 172]
abbrev dktX25_part_2 : List UInt8 := dkwX25_part_2 ++ []
def dkwX25_part_1 : List UInt8 := [9, 148, 155, 0, 11, 33, 20, 0, 51, 148, 158, 0, 5, 2, 172, 42, 180, 0, 11, 42, 180, 0, 28, 50]
abbrev dktX25_part_1 : List UInt8 := dkwX25_part_1 ++ dktX25_part_2
def dkwX25_part_0 : List UInt8 := [42, 180, 0, 28, 16, 10, 159, 0, 31, 31, 9, 148, 155, 0, 25, 31, 20, 0, 49, 148, 156, 0, 17, 33]
abbrev dktX25_part_0 : List UInt8 := dkwX25_part_0 ++ dktX25_part_1
theorem dksX25_part_0 : cX25_part.data.toList.drop 0 = dktX25_part_0 := by decide +kernel
theorem dksX25_part_1 : cX25_part.data.toList.drop 24 = dktX25_part_1 := dk_seg dksX25_part_0 24 rfl rfl
theorem dksX25_part_2 : cX25_part.data.toList.drop 48 = dktX25_part_2 := dk_seg dksX25_part_1 24 rfl rfl
theorem dX25_part_0 : decode cX25_part 0 = .ok (.aload_n 0, 1) := dk_42 (dk_at dksX25_part_0 0 rfl rfl)
theorem dX25_part_1 : decode cX25_part 1 = .ok (.getfield 28, 3) := dk_180 0 28 (dk_at dksX25_part_0 1 rfl rfl)
theorem dX25_part_4 : decode cX25_part 4 = .ok (.bipush 10, 2) := dk_16 10 (dk_at dksX25_part_0 4 rfl rfl)
theorem dX25_part_6 : decode cX25_part 6 = .ok (.if_icmp .eq 31, 3) := dk_159 0 31 (dk_at dksX25_part_0 6 rfl rfl)
theorem dX25_part_9 : decode cX25_part 9 = .ok (.lload_n 1, 1) := dk_31 (dk_at dksX25_part_0 9 rfl rfl)
theorem dX25_part_10 : decode cX25_part 10 = .ok (.lconst 0, 1) := dk_9 (dk_at dksX25_part_0 10 rfl rfl)
theorem dX25_part_11 : decode cX25_part 11 = .ok (.lcmp, 1) := dk_148 (dk_at dksX25_part_0 11 rfl rfl)
theorem dX25_part_12 : decode cX25_part 12 = .ok (.ifCond .lt 25, 3) := dk_155 0 25 (dk_at dksX25_part_0 12 rfl rfl)
theorem dX25_part_15 : decode cX25_part 15 = .ok (.lload_n 1, 1) := dk_31 (dk_at dksX25_part_0 15 rfl rfl)
theorem dX25_part_16 : decode cX25_part 16 = .ok (.ldc2_w 49, 3) := dk_20 0 49 (dk_at dksX25_part_0 16 rfl rfl)
theorem dX25_part_19 : decode cX25_part 19 = .ok (.lcmp, 1) := dk_148 (dk_at dksX25_part_0 19 rfl rfl)
theorem dX25_part_20 : decode cX25_part 20 = .ok (.ifCond .ge 17, 3) := dk_156 0 17 (dk_at dksX25_part_0 20 rfl rfl)
theorem dX25_part_23 : decode cX25_part 23 = .ok (.lload_n 3, 1) := dk_33 (dk_at dksX25_part_0 23 rfl rfl)
theorem dX25_part_24 : decode cX25_part 24 = .ok (.lconst 0, 1) := dk_9 (dk_at dksX25_part_1 0 rfl rfl)
theorem dX25_part_25 : decode cX25_part 25 = .ok (.lcmp, 1) := dk_148 (dk_at dksX25_part_1 1 rfl rfl)
theorem dX25_part_26 : decode cX25_part 26 = .ok (.ifCond .lt 11, 3) := dk_155 0 11 (dk_at dksX25_part_1 2 rfl rfl)
theorem dX25_part_29 : decode cX25_part 29 = .ok (.lload_n 3, 1) := dk_33 (dk_at dksX25_part_1 5 rfl rfl)
theorem dX25_part_30 : decode cX25_part 30 = .ok (.ldc2_w 51, 3) := dk_20 0 51 (dk_at dksX25_part_1 6 rfl rfl)
theorem dX25_part_33 : decode cX25_part 33 = .ok (.lcmp, 1) := dk_148 (dk_at dksX25_part_1 9 rfl rfl)
theorem dX25_part_34 : decode cX25_part 34 = .ok (.ifCond .le 5, 3) := dk_158 0 5 (dk_at dksX25_part_1 10 rfl rfl)
theorem dX25_part_37 : decode cX25_part 37 = .ok (.iconst (-1), 1) := dk_2 (dk_at dksX25_part_1 13 rfl rfl)
theorem dX25_part_38 : decode cX25_part 38 = .ok (.ireturn, 1) := dk_172 (dk_at dksX25_part_1 14 rfl rfl)
theorem dX25_part_39 : decode cX25_part 39 = .ok (.aload_n 0, 1) := dk_42 (dk_at dksX25_part_1 15 rfl rfl)
theorem dX25_part_40 : decode cX25_part 40 = .ok (.getfield 11, 3) := dk_180 0 11 (dk_at dksX25_part_1 16 rfl rfl)
theorem dX25_part_43 : decode cX25_part 43 = .ok (.aload_n 0, 1) := dk_42 (dk_at dksX25_part_1 19 rfl rfl)
theorem dX25_part_44 : decode cX25_part 44 = .ok (.getfield 28, 3) := dk_180 0 28 (dk_at dksX25_part_1 20 rfl rfl)
theorem dX25_part_47 : decode cX25_part 47 = .ok (.aaload, 1) := dk_50 (dk_at dksX25_part_1 23 rfl rfl)
theorem dX25_part_48 : decode cX25_part 48 = .ok (.lload_n 1, 1) := dk_31 (dk_at dksX25_part_2 0 rfl rfl)
theorem dX25_part_49 : decode cX25_part 49 = .ok (.l2i, 1) := dk_136 (dk_at dksX25_part_2 1 rfl rfl)
theorem dX25_part_50 : decode cX25_part 50 = .ok (.lload_n 3, 1) := dk_33 (dk_at dksX25_part_2 2 rfl rfl)
theorem dX25_part_51 : decode cX25_part 51 = .ok (.l2i, 1) := dk_136 (dk_at dksX25_part_2 3 rfl rfl)
theorem dX25_part_52 : decode cX25_part 52 = .ok (.invokevirtual 53, 3) := dk_182 0 53 (dk_at dksX25_part_2 4 rfl rfl)
theorem dX25_part_55 : decode cX25_part 55 = .ok (.aload_n 0, 1) := dk_42 (dk_at dksX25_part_2 7 rfl rfl)
theorem dX25_part_56 : decode cX25_part 56 = .ok (.dup, 1) := dk_89 (dk_at dksX25_part_2 8 rfl rfl)
theorem dX25_part_57 : decode cX25_part 57 = .ok (.getfield 28, 3) := dk_180 0 28 (dk_at dksX25_part_2 9 rfl rfl)
theorem dX25_part_60 : decode cX25_part 60 = .ok (.dup_x1, 1) := dk_90 (dk_at dksX25_part_2 12 rfl rfl)
theorem dX25_part_61 : decode cX25_part 61 = .ok (.iconst 1, 1) := dk_4 (dk_at dksX25_part_2 13 rfl rfl)
theorem dX25_part_62 : decode cX25_part 62 = .ok (.iadd, 1) := dk_96 (dk_at dksX25_part_2 14 rfl rfl)
theorem dX25_part_63 : decode cX25_part 63 = .ok (.putfield 28, 3) := dk_181 0 28 (dk_at dksX25_part_2 15 rfl rfl)
theorem dX25_part_66 : decode cX25_part 66 = .ok (.ireturn, 1) := dk_172 (dk_at dksX25_part_2 18 rfl rfl)
abbrev cX25_cover : ByteArray := prog_29_method_8_code
def yX25_cover : MethodName := ⟨RX25, "cover", "(JJ)Z"⟩
def dkwX25_cover_2 : List UInt8 := [181, 0, 63, 4, 172]
abbrev dktX25_cover_2 : List UInt8 := dkwX25_cover_2 ++ []
def dkwX25_cover_1 : List UInt8 := [4, 160, 0, 5, 3, 172, 42, 180, 0, 11, 33, 136, 50, 89, 180, 0, 63, 4, 31, 136, 120, 128]
abbrev dktX25_cover_1 : List UInt8 := dkwX25_cover_1 ++ dktX25_cover_2
def dkwX25_cover_0 : List UInt8 := [42, 31, 33, 182, 0, 57, 153, 0, 22, 42, 180, 0, 11, 33, 136, 50, 180, 0, 63, 31, 136, 122, 4, 126]
abbrev dktX25_cover_0 : List UInt8 := dkwX25_cover_0 ++ dktX25_cover_1
theorem dksX25_cover_0 : cX25_cover.data.toList.drop 0 = dktX25_cover_0 := by decide +kernel
theorem dksX25_cover_1 : cX25_cover.data.toList.drop 24 = dktX25_cover_1 := dk_seg dksX25_cover_0 24 rfl rfl
theorem dksX25_cover_2 : cX25_cover.data.toList.drop 46 = dktX25_cover_2 := dk_seg dksX25_cover_1 22 rfl rfl
theorem dX25_cover_0 : decode cX25_cover 0 = .ok (.aload_n 0, 1) := dk_42 (dk_at dksX25_cover_0 0 rfl rfl)
theorem dX25_cover_1 : decode cX25_cover 1 = .ok (.lload_n 1, 1) := dk_31 (dk_at dksX25_cover_0 1 rfl rfl)
theorem dX25_cover_2 : decode cX25_cover 2 = .ok (.lload_n 3, 1) := dk_33 (dk_at dksX25_cover_0 2 rfl rfl)
theorem dX25_cover_3 : decode cX25_cover 3 = .ok (.invokevirtual 57, 3) := dk_182 0 57 (dk_at dksX25_cover_0 3 rfl rfl)
theorem dX25_cover_6 : decode cX25_cover 6 = .ok (.ifCond .eq 22, 3) := dk_153 0 22 (dk_at dksX25_cover_0 6 rfl rfl)
theorem dX25_cover_9 : decode cX25_cover 9 = .ok (.aload_n 0, 1) := dk_42 (dk_at dksX25_cover_0 9 rfl rfl)
theorem dX25_cover_10 : decode cX25_cover 10 = .ok (.getfield 11, 3) := dk_180 0 11 (dk_at dksX25_cover_0 10 rfl rfl)
theorem dX25_cover_13 : decode cX25_cover 13 = .ok (.lload_n 3, 1) := dk_33 (dk_at dksX25_cover_0 13 rfl rfl)
theorem dX25_cover_14 : decode cX25_cover 14 = .ok (.l2i, 1) := dk_136 (dk_at dksX25_cover_0 14 rfl rfl)
theorem dX25_cover_15 : decode cX25_cover 15 = .ok (.aaload, 1) := dk_50 (dk_at dksX25_cover_0 15 rfl rfl)
theorem dX25_cover_16 : decode cX25_cover 16 = .ok (.getfield 63, 3) := dk_180 0 63 (dk_at dksX25_cover_0 16 rfl rfl)
theorem dX25_cover_19 : decode cX25_cover 19 = .ok (.lload_n 1, 1) := dk_31 (dk_at dksX25_cover_0 19 rfl rfl)
theorem dX25_cover_20 : decode cX25_cover 20 = .ok (.l2i, 1) := dk_136 (dk_at dksX25_cover_0 20 rfl rfl)
theorem dX25_cover_21 : decode cX25_cover 21 = .ok (.ishr, 1) := dk_122 (dk_at dksX25_cover_0 21 rfl rfl)
theorem dX25_cover_22 : decode cX25_cover 22 = .ok (.iconst 1, 1) := dk_4 (dk_at dksX25_cover_0 22 rfl rfl)
theorem dX25_cover_23 : decode cX25_cover 23 = .ok (.iand, 1) := dk_126 (dk_at dksX25_cover_0 23 rfl rfl)
theorem dX25_cover_24 : decode cX25_cover 24 = .ok (.iconst 1, 1) := dk_4 (dk_at dksX25_cover_1 0 rfl rfl)
theorem dX25_cover_25 : decode cX25_cover 25 = .ok (.if_icmp .ne 5, 3) := dk_160 0 5 (dk_at dksX25_cover_1 1 rfl rfl)
theorem dX25_cover_28 : decode cX25_cover 28 = .ok (.iconst 0, 1) := dk_3 (dk_at dksX25_cover_1 4 rfl rfl)
theorem dX25_cover_29 : decode cX25_cover 29 = .ok (.ireturn, 1) := dk_172 (dk_at dksX25_cover_1 5 rfl rfl)
theorem dX25_cover_30 : decode cX25_cover 30 = .ok (.aload_n 0, 1) := dk_42 (dk_at dksX25_cover_1 6 rfl rfl)
theorem dX25_cover_31 : decode cX25_cover 31 = .ok (.getfield 11, 3) := dk_180 0 11 (dk_at dksX25_cover_1 7 rfl rfl)
theorem dX25_cover_34 : decode cX25_cover 34 = .ok (.lload_n 3, 1) := dk_33 (dk_at dksX25_cover_1 10 rfl rfl)
theorem dX25_cover_35 : decode cX25_cover 35 = .ok (.l2i, 1) := dk_136 (dk_at dksX25_cover_1 11 rfl rfl)
theorem dX25_cover_36 : decode cX25_cover 36 = .ok (.aaload, 1) := dk_50 (dk_at dksX25_cover_1 12 rfl rfl)
theorem dX25_cover_37 : decode cX25_cover 37 = .ok (.dup, 1) := dk_89 (dk_at dksX25_cover_1 13 rfl rfl)
theorem dX25_cover_38 : decode cX25_cover 38 = .ok (.getfield 63, 3) := dk_180 0 63 (dk_at dksX25_cover_1 14 rfl rfl)
theorem dX25_cover_41 : decode cX25_cover 41 = .ok (.iconst 1, 1) := dk_4 (dk_at dksX25_cover_1 17 rfl rfl)
theorem dX25_cover_42 : decode cX25_cover 42 = .ok (.lload_n 1, 1) := dk_31 (dk_at dksX25_cover_1 18 rfl rfl)
theorem dX25_cover_43 : decode cX25_cover 43 = .ok (.l2i, 1) := dk_136 (dk_at dksX25_cover_1 19 rfl rfl)
theorem dX25_cover_44 : decode cX25_cover 44 = .ok (.ishl, 1) := dk_120 (dk_at dksX25_cover_1 20 rfl rfl)
theorem dX25_cover_45 : decode cX25_cover 45 = .ok (.ior, 1) := dk_128 (dk_at dksX25_cover_1 21 rfl rfl)
theorem dX25_cover_46 : decode cX25_cover 46 = .ok (.putfield 63, 3) := dk_181 0 63 (dk_at dksX25_cover_2 0 rfl rfl)
theorem dX25_cover_49 : decode cX25_cover 49 = .ok (.iconst 1, 1) := dk_4 (dk_at dksX25_cover_2 3 rfl rfl)
theorem dX25_cover_50 : decode cX25_cover 50 = .ok (.ireturn, 1) := dk_172 (dk_at dksX25_cover_2 4 rfl rfl)
abbrev cX25_areTwo : ByteArray := prog_29_method_5_code
def yX25_areTwo : MethodName := ⟨RX25, "areTwo", "(JJ)Z"⟩
def dkwX25_areTwo_1 : List UInt8 := [167, 0, 4, 3, 172]
abbrev dktX25_areTwo_1 : List UInt8 := dkwX25_areTwo_1 ++ []
def dkwX25_areTwo_0 : List UInt8 := [42, 31, 182, 0, 45, 153, 0, 21, 42, 33, 182, 0, 45, 153, 0, 13, 31, 33, 148, 153, 0, 7, 4]
abbrev dktX25_areTwo_0 : List UInt8 := dkwX25_areTwo_0 ++ dktX25_areTwo_1
theorem dksX25_areTwo_0 : cX25_areTwo.data.toList.drop 0 = dktX25_areTwo_0 := by decide +kernel
theorem dksX25_areTwo_1 : cX25_areTwo.data.toList.drop 23 = dktX25_areTwo_1 := dk_seg dksX25_areTwo_0 23 rfl rfl
theorem dX25_areTwo_0 : decode cX25_areTwo 0 = .ok (.aload_n 0, 1) := dk_42 (dk_at dksX25_areTwo_0 0 rfl rfl)
theorem dX25_areTwo_1 : decode cX25_areTwo 1 = .ok (.lload_n 1, 1) := dk_31 (dk_at dksX25_areTwo_0 1 rfl rfl)
theorem dX25_areTwo_2 : decode cX25_areTwo 2 = .ok (.invokevirtual 45, 3) := dk_182 0 45 (dk_at dksX25_areTwo_0 2 rfl rfl)
theorem dX25_areTwo_5 : decode cX25_areTwo 5 = .ok (.ifCond .eq 21, 3) := dk_153 0 21 (dk_at dksX25_areTwo_0 5 rfl rfl)
theorem dX25_areTwo_8 : decode cX25_areTwo 8 = .ok (.aload_n 0, 1) := dk_42 (dk_at dksX25_areTwo_0 8 rfl rfl)
theorem dX25_areTwo_9 : decode cX25_areTwo 9 = .ok (.lload_n 3, 1) := dk_33 (dk_at dksX25_areTwo_0 9 rfl rfl)
theorem dX25_areTwo_10 : decode cX25_areTwo 10 = .ok (.invokevirtual 45, 3) := dk_182 0 45 (dk_at dksX25_areTwo_0 10 rfl rfl)
theorem dX25_areTwo_13 : decode cX25_areTwo 13 = .ok (.ifCond .eq 13, 3) := dk_153 0 13 (dk_at dksX25_areTwo_0 13 rfl rfl)
theorem dX25_areTwo_16 : decode cX25_areTwo 16 = .ok (.lload_n 1, 1) := dk_31 (dk_at dksX25_areTwo_0 16 rfl rfl)
theorem dX25_areTwo_17 : decode cX25_areTwo 17 = .ok (.lload_n 3, 1) := dk_33 (dk_at dksX25_areTwo_0 17 rfl rfl)
theorem dX25_areTwo_18 : decode cX25_areTwo 18 = .ok (.lcmp, 1) := dk_148 (dk_at dksX25_areTwo_0 18 rfl rfl)
theorem dX25_areTwo_19 : decode cX25_areTwo 19 = .ok (.ifCond .eq 7, 3) := dk_153 0 7 (dk_at dksX25_areTwo_0 19 rfl rfl)
theorem dX25_areTwo_22 : decode cX25_areTwo 22 = .ok (.iconst 1, 1) := dk_4 (dk_at dksX25_areTwo_0 22 rfl rfl)
theorem dX25_areTwo_23 : decode cX25_areTwo 23 = .ok (.goto 4, 3) := dk_167 0 4 (dk_at dksX25_areTwo_1 0 rfl rfl)
theorem dX25_areTwo_26 : decode cX25_areTwo 26 = .ok (.iconst 0, 1) := dk_3 (dk_at dksX25_areTwo_1 3 rfl rfl)
theorem dX25_areTwo_27 : decode cX25_areTwo 27 = .ok (.ireturn, 1) := dk_172 (dk_at dksX25_areTwo_1 4 rfl rfl)
abbrev cX25_canWay : ByteArray := prog_29_method_9_code
def yX25_canWay : MethodName := ⟨RX25, "canWay", "(JJJ)Z"⟩
def dkwX25_canWay_1 : List UInt8 := [20, 0, 66, 148, 156, 0, 7, 4, 167, 0, 4, 3, 172]
abbrev dktX25_canWay_1 : List UInt8 := dkwX25_canWay_1 ++ []
def dkwX25_canWay_0 : List UInt8 := [42, 31, 182, 0, 45, 153, 0, 30, 42, 22, 5, 182, 0, 45, 153, 0, 21, 33, 9, 148, 155, 0, 15, 33]
abbrev dktX25_canWay_0 : List UInt8 := dkwX25_canWay_0 ++ dktX25_canWay_1
theorem dksX25_canWay_0 : cX25_canWay.data.toList.drop 0 = dktX25_canWay_0 := by decide +kernel
theorem dksX25_canWay_1 : cX25_canWay.data.toList.drop 24 = dktX25_canWay_1 := dk_seg dksX25_canWay_0 24 rfl rfl
theorem dX25_canWay_0 : decode cX25_canWay 0 = .ok (.aload_n 0, 1) := dk_42 (dk_at dksX25_canWay_0 0 rfl rfl)
theorem dX25_canWay_1 : decode cX25_canWay 1 = .ok (.lload_n 1, 1) := dk_31 (dk_at dksX25_canWay_0 1 rfl rfl)
theorem dX25_canWay_2 : decode cX25_canWay 2 = .ok (.invokevirtual 45, 3) := dk_182 0 45 (dk_at dksX25_canWay_0 2 rfl rfl)
theorem dX25_canWay_5 : decode cX25_canWay 5 = .ok (.ifCond .eq 30, 3) := dk_153 0 30 (dk_at dksX25_canWay_0 5 rfl rfl)
theorem dX25_canWay_8 : decode cX25_canWay 8 = .ok (.aload_n 0, 1) := dk_42 (dk_at dksX25_canWay_0 8 rfl rfl)
theorem dX25_canWay_9 : decode cX25_canWay 9 = .ok (.lload 5, 2) := dk_22 5 (dk_at dksX25_canWay_0 9 rfl rfl)
theorem dX25_canWay_11 : decode cX25_canWay 11 = .ok (.invokevirtual 45, 3) := dk_182 0 45 (dk_at dksX25_canWay_0 11 rfl rfl)
theorem dX25_canWay_14 : decode cX25_canWay 14 = .ok (.ifCond .eq 21, 3) := dk_153 0 21 (dk_at dksX25_canWay_0 14 rfl rfl)
theorem dX25_canWay_17 : decode cX25_canWay 17 = .ok (.lload_n 3, 1) := dk_33 (dk_at dksX25_canWay_0 17 rfl rfl)
theorem dX25_canWay_18 : decode cX25_canWay 18 = .ok (.lconst 0, 1) := dk_9 (dk_at dksX25_canWay_0 18 rfl rfl)
theorem dX25_canWay_19 : decode cX25_canWay 19 = .ok (.lcmp, 1) := dk_148 (dk_at dksX25_canWay_0 19 rfl rfl)
theorem dX25_canWay_20 : decode cX25_canWay 20 = .ok (.ifCond .lt 15, 3) := dk_155 0 15 (dk_at dksX25_canWay_0 20 rfl rfl)
theorem dX25_canWay_23 : decode cX25_canWay 23 = .ok (.lload_n 3, 1) := dk_33 (dk_at dksX25_canWay_0 23 rfl rfl)
theorem dX25_canWay_24 : decode cX25_canWay 24 = .ok (.ldc2_w 66, 3) := dk_20 0 66 (dk_at dksX25_canWay_1 0 rfl rfl)
theorem dX25_canWay_27 : decode cX25_canWay 27 = .ok (.lcmp, 1) := dk_148 (dk_at dksX25_canWay_1 3 rfl rfl)
theorem dX25_canWay_28 : decode cX25_canWay 28 = .ok (.ifCond .ge 7, 3) := dk_156 0 7 (dk_at dksX25_canWay_1 4 rfl rfl)
theorem dX25_canWay_31 : decode cX25_canWay 31 = .ok (.iconst 1, 1) := dk_4 (dk_at dksX25_canWay_1 7 rfl rfl)
theorem dX25_canWay_32 : decode cX25_canWay 32 = .ok (.goto 4, 3) := dk_167 0 4 (dk_at dksX25_canWay_1 8 rfl rfl)
theorem dX25_canWay_35 : decode cX25_canWay 35 = .ok (.iconst 0, 1) := dk_3 (dk_at dksX25_canWay_1 11 rfl rfl)
theorem dX25_canWay_36 : decode cX25_canWay 36 = .ok (.ireturn, 1) := dk_172 (dk_at dksX25_canWay_1 12 rfl rfl)
abbrev cX25_way : ByteArray := prog_29_method_10_code
def yX25_way : MethodName := ⟨RX25, "way", "(JJJ)Z"⟩
def dkwX25_way_2 : List UInt8 := [79, 4, 172]
abbrev dktX25_way_2 : List UInt8 := dkwX25_way_2 ++ []
def dkwX25_way_1 : List UInt8 := [22, 5, 136, 122, 4, 126, 4, 160, 0, 5, 3, 172, 25, 7, 33, 136, 92, 46, 4, 22, 5, 136, 120, 128]
abbrev dktX25_way_1 : List UInt8 := dkwX25_way_1 ++ dktX25_way_2
def dkwX25_way_0 : List UInt8 := [42, 180, 0, 11, 31, 136, 50, 180, 0, 68, 58, 7, 31, 22, 5, 148, 153, 0, 18, 25, 7, 33, 136, 46]
abbrev dktX25_way_0 : List UInt8 := dkwX25_way_0 ++ dktX25_way_1
theorem dksX25_way_0 : cX25_way.data.toList.drop 0 = dktX25_way_0 := by decide +kernel
theorem dksX25_way_1 : cX25_way.data.toList.drop 24 = dktX25_way_1 := dk_seg dksX25_way_0 24 rfl rfl
theorem dksX25_way_2 : cX25_way.data.toList.drop 48 = dktX25_way_2 := dk_seg dksX25_way_1 24 rfl rfl
theorem dX25_way_0 : decode cX25_way 0 = .ok (.aload_n 0, 1) := dk_42 (dk_at dksX25_way_0 0 rfl rfl)
theorem dX25_way_1 : decode cX25_way 1 = .ok (.getfield 11, 3) := dk_180 0 11 (dk_at dksX25_way_0 1 rfl rfl)
theorem dX25_way_4 : decode cX25_way 4 = .ok (.lload_n 1, 1) := dk_31 (dk_at dksX25_way_0 4 rfl rfl)
theorem dX25_way_5 : decode cX25_way 5 = .ok (.l2i, 1) := dk_136 (dk_at dksX25_way_0 5 rfl rfl)
theorem dX25_way_6 : decode cX25_way 6 = .ok (.aaload, 1) := dk_50 (dk_at dksX25_way_0 6 rfl rfl)
theorem dX25_way_7 : decode cX25_way 7 = .ok (.getfield 68, 3) := dk_180 0 68 (dk_at dksX25_way_0 7 rfl rfl)
theorem dX25_way_10 : decode cX25_way 10 = .ok (.astore 7, 2) := dk_58 7 (dk_at dksX25_way_0 10 rfl rfl)
theorem dX25_way_12 : decode cX25_way 12 = .ok (.lload_n 1, 1) := dk_31 (dk_at dksX25_way_0 12 rfl rfl)
theorem dX25_way_13 : decode cX25_way 13 = .ok (.lload 5, 2) := dk_22 5 (dk_at dksX25_way_0 13 rfl rfl)
theorem dX25_way_15 : decode cX25_way 15 = .ok (.lcmp, 1) := dk_148 (dk_at dksX25_way_0 15 rfl rfl)
theorem dX25_way_16 : decode cX25_way 16 = .ok (.ifCond .eq 18, 3) := dk_153 0 18 (dk_at dksX25_way_0 16 rfl rfl)
theorem dX25_way_19 : decode cX25_way 19 = .ok (.aload 7, 2) := dk_25 7 (dk_at dksX25_way_0 19 rfl rfl)
theorem dX25_way_21 : decode cX25_way 21 = .ok (.lload_n 3, 1) := dk_33 (dk_at dksX25_way_0 21 rfl rfl)
theorem dX25_way_22 : decode cX25_way 22 = .ok (.l2i, 1) := dk_136 (dk_at dksX25_way_0 22 rfl rfl)
theorem dX25_way_23 : decode cX25_way 23 = .ok (.iaload, 1) := dk_46 (dk_at dksX25_way_0 23 rfl rfl)
theorem dX25_way_24 : decode cX25_way 24 = .ok (.lload 5, 2) := dk_22 5 (dk_at dksX25_way_1 0 rfl rfl)
theorem dX25_way_26 : decode cX25_way 26 = .ok (.l2i, 1) := dk_136 (dk_at dksX25_way_1 2 rfl rfl)
theorem dX25_way_27 : decode cX25_way 27 = .ok (.ishr, 1) := dk_122 (dk_at dksX25_way_1 3 rfl rfl)
theorem dX25_way_28 : decode cX25_way 28 = .ok (.iconst 1, 1) := dk_4 (dk_at dksX25_way_1 4 rfl rfl)
theorem dX25_way_29 : decode cX25_way 29 = .ok (.iand, 1) := dk_126 (dk_at dksX25_way_1 5 rfl rfl)
theorem dX25_way_30 : decode cX25_way 30 = .ok (.iconst 1, 1) := dk_4 (dk_at dksX25_way_1 6 rfl rfl)
theorem dX25_way_31 : decode cX25_way 31 = .ok (.if_icmp .ne 5, 3) := dk_160 0 5 (dk_at dksX25_way_1 7 rfl rfl)
theorem dX25_way_34 : decode cX25_way 34 = .ok (.iconst 0, 1) := dk_3 (dk_at dksX25_way_1 10 rfl rfl)
theorem dX25_way_35 : decode cX25_way 35 = .ok (.ireturn, 1) := dk_172 (dk_at dksX25_way_1 11 rfl rfl)
theorem dX25_way_36 : decode cX25_way 36 = .ok (.aload 7, 2) := dk_25 7 (dk_at dksX25_way_1 12 rfl rfl)
theorem dX25_way_38 : decode cX25_way 38 = .ok (.lload_n 3, 1) := dk_33 (dk_at dksX25_way_1 14 rfl rfl)
theorem dX25_way_39 : decode cX25_way 39 = .ok (.l2i, 1) := dk_136 (dk_at dksX25_way_1 15 rfl rfl)
theorem dX25_way_40 : decode cX25_way 40 = .ok (.dup2, 1) := dk_92 (dk_at dksX25_way_1 16 rfl rfl)
theorem dX25_way_41 : decode cX25_way 41 = .ok (.iaload, 1) := dk_46 (dk_at dksX25_way_1 17 rfl rfl)
theorem dX25_way_42 : decode cX25_way 42 = .ok (.iconst 1, 1) := dk_4 (dk_at dksX25_way_1 18 rfl rfl)
theorem dX25_way_43 : decode cX25_way 43 = .ok (.lload 5, 2) := dk_22 5 (dk_at dksX25_way_1 19 rfl rfl)
theorem dX25_way_45 : decode cX25_way 45 = .ok (.l2i, 1) := dk_136 (dk_at dksX25_way_1 21 rfl rfl)
theorem dX25_way_46 : decode cX25_way 46 = .ok (.ishl, 1) := dk_120 (dk_at dksX25_way_1 22 rfl rfl)
theorem dX25_way_47 : decode cX25_way 47 = .ok (.ior, 1) := dk_128 (dk_at dksX25_way_1 23 rfl rfl)
theorem dX25_way_48 : decode cX25_way 48 = .ok (.iastore, 1) := dk_79 (dk_at dksX25_way_2 0 rfl rfl)
theorem dX25_way_49 : decode cX25_way 49 = .ok (.iconst 1, 1) := dk_4 (dk_at dksX25_way_2 1 rfl rfl)
theorem dX25_way_50 : decode cX25_way 50 = .ok (.ireturn, 1) := dk_172 (dk_at dksX25_way_2 2 rfl rfl)
abbrev cX25_fasten : ByteArray := prog_29_method_7_code
def yX25_fasten : MethodName := ⟨RX25, "fasten", "(JJJ)I"⟩
def dkwX25_fasten_3 : List UInt8 := [136, 145, 84, 42, 89, 180, 0, 32, 90, 4, 96, 181, 0, 32, 172]
abbrev dktX25_fasten_3 : List UInt8 := dkwX25_fasten_3 ++ []
def dkwX25_fasten_2 : List UInt8 := [145, 84, 42, 180, 0, 21, 42, 180, 0, 32, 33, 136, 145, 84, 42, 180, 0, 24, 42, 180, 0, 32, 22, 5]
abbrev dktX25_fasten_2 : List UInt8 := dkwX25_fasten_2 ++ dktX25_fasten_3
def dkwX25_fasten_1 : List UInt8 := [155, 0, 12, 22, 5, 20, 0, 61, 148, 158, 0, 5, 2, 172, 42, 180, 0, 17, 42, 180, 0, 32, 31, 136]
abbrev dktX25_fasten_1 : List UInt8 := dkwX25_fasten_1 ++ dktX25_fasten_2
def dkwX25_fasten_0 : List UInt8 := [42, 180, 0, 32, 16, 20, 159, 0, 28, 42, 31, 33, 182, 0, 57, 153, 0, 19, 22, 5, 9, 148]
abbrev dktX25_fasten_0 : List UInt8 := dkwX25_fasten_0 ++ dktX25_fasten_1
theorem dksX25_fasten_0 : cX25_fasten.data.toList.drop 0 = dktX25_fasten_0 := by decide +kernel
theorem dksX25_fasten_1 : cX25_fasten.data.toList.drop 22 = dktX25_fasten_1 := dk_seg dksX25_fasten_0 22 rfl rfl
theorem dksX25_fasten_2 : cX25_fasten.data.toList.drop 46 = dktX25_fasten_2 := dk_seg dksX25_fasten_1 24 rfl rfl
theorem dksX25_fasten_3 : cX25_fasten.data.toList.drop 70 = dktX25_fasten_3 := dk_seg dksX25_fasten_2 24 rfl rfl
theorem dX25_fasten_0 : decode cX25_fasten 0 = .ok (.aload_n 0, 1) := dk_42 (dk_at dksX25_fasten_0 0 rfl rfl)
theorem dX25_fasten_1 : decode cX25_fasten 1 = .ok (.getfield 32, 3) := dk_180 0 32 (dk_at dksX25_fasten_0 1 rfl rfl)
theorem dX25_fasten_4 : decode cX25_fasten 4 = .ok (.bipush 20, 2) := dk_16 20 (dk_at dksX25_fasten_0 4 rfl rfl)
theorem dX25_fasten_6 : decode cX25_fasten 6 = .ok (.if_icmp .eq 28, 3) := dk_159 0 28 (dk_at dksX25_fasten_0 6 rfl rfl)
theorem dX25_fasten_9 : decode cX25_fasten 9 = .ok (.aload_n 0, 1) := dk_42 (dk_at dksX25_fasten_0 9 rfl rfl)
theorem dX25_fasten_10 : decode cX25_fasten 10 = .ok (.lload_n 1, 1) := dk_31 (dk_at dksX25_fasten_0 10 rfl rfl)
theorem dX25_fasten_11 : decode cX25_fasten 11 = .ok (.lload_n 3, 1) := dk_33 (dk_at dksX25_fasten_0 11 rfl rfl)
theorem dX25_fasten_12 : decode cX25_fasten 12 = .ok (.invokevirtual 57, 3) := dk_182 0 57 (dk_at dksX25_fasten_0 12 rfl rfl)
theorem dX25_fasten_15 : decode cX25_fasten 15 = .ok (.ifCond .eq 19, 3) := dk_153 0 19 (dk_at dksX25_fasten_0 15 rfl rfl)
theorem dX25_fasten_18 : decode cX25_fasten 18 = .ok (.lload 5, 2) := dk_22 5 (dk_at dksX25_fasten_0 18 rfl rfl)
theorem dX25_fasten_20 : decode cX25_fasten 20 = .ok (.lconst 0, 1) := dk_9 (dk_at dksX25_fasten_0 20 rfl rfl)
theorem dX25_fasten_21 : decode cX25_fasten 21 = .ok (.lcmp, 1) := dk_148 (dk_at dksX25_fasten_0 21 rfl rfl)
theorem dX25_fasten_22 : decode cX25_fasten 22 = .ok (.ifCond .lt 12, 3) := dk_155 0 12 (dk_at dksX25_fasten_1 0 rfl rfl)
theorem dX25_fasten_25 : decode cX25_fasten 25 = .ok (.lload 5, 2) := dk_22 5 (dk_at dksX25_fasten_1 3 rfl rfl)
theorem dX25_fasten_27 : decode cX25_fasten 27 = .ok (.ldc2_w 61, 3) := dk_20 0 61 (dk_at dksX25_fasten_1 5 rfl rfl)
theorem dX25_fasten_30 : decode cX25_fasten 30 = .ok (.lcmp, 1) := dk_148 (dk_at dksX25_fasten_1 8 rfl rfl)
theorem dX25_fasten_31 : decode cX25_fasten 31 = .ok (.ifCond .le 5, 3) := dk_158 0 5 (dk_at dksX25_fasten_1 9 rfl rfl)
theorem dX25_fasten_34 : decode cX25_fasten 34 = .ok (.iconst (-1), 1) := dk_2 (dk_at dksX25_fasten_1 12 rfl rfl)
theorem dX25_fasten_35 : decode cX25_fasten 35 = .ok (.ireturn, 1) := dk_172 (dk_at dksX25_fasten_1 13 rfl rfl)
theorem dX25_fasten_36 : decode cX25_fasten 36 = .ok (.aload_n 0, 1) := dk_42 (dk_at dksX25_fasten_1 14 rfl rfl)
theorem dX25_fasten_37 : decode cX25_fasten 37 = .ok (.getfield 17, 3) := dk_180 0 17 (dk_at dksX25_fasten_1 15 rfl rfl)
theorem dX25_fasten_40 : decode cX25_fasten 40 = .ok (.aload_n 0, 1) := dk_42 (dk_at dksX25_fasten_1 18 rfl rfl)
theorem dX25_fasten_41 : decode cX25_fasten 41 = .ok (.getfield 32, 3) := dk_180 0 32 (dk_at dksX25_fasten_1 19 rfl rfl)
theorem dX25_fasten_44 : decode cX25_fasten 44 = .ok (.lload_n 1, 1) := dk_31 (dk_at dksX25_fasten_1 22 rfl rfl)
theorem dX25_fasten_45 : decode cX25_fasten 45 = .ok (.l2i, 1) := dk_136 (dk_at dksX25_fasten_1 23 rfl rfl)
theorem dX25_fasten_46 : decode cX25_fasten 46 = .ok (.i2b, 1) := dk_145 (dk_at dksX25_fasten_2 0 rfl rfl)
theorem dX25_fasten_47 : decode cX25_fasten 47 = .ok (.bastore, 1) := dk_84 (dk_at dksX25_fasten_2 1 rfl rfl)
theorem dX25_fasten_48 : decode cX25_fasten 48 = .ok (.aload_n 0, 1) := dk_42 (dk_at dksX25_fasten_2 2 rfl rfl)
theorem dX25_fasten_49 : decode cX25_fasten 49 = .ok (.getfield 21, 3) := dk_180 0 21 (dk_at dksX25_fasten_2 3 rfl rfl)
theorem dX25_fasten_52 : decode cX25_fasten 52 = .ok (.aload_n 0, 1) := dk_42 (dk_at dksX25_fasten_2 6 rfl rfl)
theorem dX25_fasten_53 : decode cX25_fasten 53 = .ok (.getfield 32, 3) := dk_180 0 32 (dk_at dksX25_fasten_2 7 rfl rfl)
theorem dX25_fasten_56 : decode cX25_fasten 56 = .ok (.lload_n 3, 1) := dk_33 (dk_at dksX25_fasten_2 10 rfl rfl)
theorem dX25_fasten_57 : decode cX25_fasten 57 = .ok (.l2i, 1) := dk_136 (dk_at dksX25_fasten_2 11 rfl rfl)
theorem dX25_fasten_58 : decode cX25_fasten 58 = .ok (.i2b, 1) := dk_145 (dk_at dksX25_fasten_2 12 rfl rfl)
theorem dX25_fasten_59 : decode cX25_fasten 59 = .ok (.bastore, 1) := dk_84 (dk_at dksX25_fasten_2 13 rfl rfl)
theorem dX25_fasten_60 : decode cX25_fasten 60 = .ok (.aload_n 0, 1) := dk_42 (dk_at dksX25_fasten_2 14 rfl rfl)
theorem dX25_fasten_61 : decode cX25_fasten 61 = .ok (.getfield 24, 3) := dk_180 0 24 (dk_at dksX25_fasten_2 15 rfl rfl)
theorem dX25_fasten_64 : decode cX25_fasten 64 = .ok (.aload_n 0, 1) := dk_42 (dk_at dksX25_fasten_2 18 rfl rfl)
theorem dX25_fasten_65 : decode cX25_fasten 65 = .ok (.getfield 32, 3) := dk_180 0 32 (dk_at dksX25_fasten_2 19 rfl rfl)
theorem dX25_fasten_68 : decode cX25_fasten 68 = .ok (.lload 5, 2) := dk_22 5 (dk_at dksX25_fasten_2 22 rfl rfl)
theorem dX25_fasten_70 : decode cX25_fasten 70 = .ok (.l2i, 1) := dk_136 (dk_at dksX25_fasten_3 0 rfl rfl)
theorem dX25_fasten_71 : decode cX25_fasten 71 = .ok (.i2b, 1) := dk_145 (dk_at dksX25_fasten_3 1 rfl rfl)
theorem dX25_fasten_72 : decode cX25_fasten 72 = .ok (.bastore, 1) := dk_84 (dk_at dksX25_fasten_3 2 rfl rfl)
theorem dX25_fasten_73 : decode cX25_fasten 73 = .ok (.aload_n 0, 1) := dk_42 (dk_at dksX25_fasten_3 3 rfl rfl)
theorem dX25_fasten_74 : decode cX25_fasten 74 = .ok (.dup, 1) := dk_89 (dk_at dksX25_fasten_3 4 rfl rfl)
theorem dX25_fasten_75 : decode cX25_fasten 75 = .ok (.getfield 32, 3) := dk_180 0 32 (dk_at dksX25_fasten_3 5 rfl rfl)
theorem dX25_fasten_78 : decode cX25_fasten 78 = .ok (.dup_x1, 1) := dk_90 (dk_at dksX25_fasten_3 8 rfl rfl)
theorem dX25_fasten_79 : decode cX25_fasten 79 = .ok (.iconst 1, 1) := dk_4 (dk_at dksX25_fasten_3 9 rfl rfl)
theorem dX25_fasten_80 : decode cX25_fasten 80 = .ok (.iadd, 1) := dk_96 (dk_at dksX25_fasten_3 10 rfl rfl)
theorem dX25_fasten_81 : decode cX25_fasten 81 = .ok (.putfield 32, 3) := dk_181 0 32 (dk_at dksX25_fasten_3 11 rfl rfl)
theorem dX25_fasten_84 : decode cX25_fasten 84 = .ok (.ireturn, 1) := dk_172 (dk_at dksX25_fasten_3 14 rfl rfl)
abbrev cX25_hazard : ByteArray := prog_29_method_11_code
def yX25_hazard : MethodName := ⟨RX25, "hazard", "(JJ)Z"⟩
def dkwX25_hazard_2 : List UInt8 := [31, 136, 50, 89, 180, 0, 74, 4, 33, 136, 120, 128, 181, 0, 74, 4, 172]
abbrev dktX25_hazard_2 : List UInt8 := dkwX25_hazard_2 ++ []
def dkwX25_hazard_1 : List UInt8 := [180, 0, 11, 31, 136, 50, 180, 0, 74, 33, 136, 122, 4, 126, 4, 160, 0, 5, 3, 172, 42, 180, 0, 11]
abbrev dktX25_hazard_1 : List UInt8 := dkwX25_hazard_1 ++ dktX25_hazard_2
def dkwX25_hazard_0 : List UInt8 := [42, 31, 182, 0, 45, 153, 0, 36, 33, 9, 148, 155, 0, 30, 33, 20, 0, 72, 148, 156, 0, 22, 42]
abbrev dktX25_hazard_0 : List UInt8 := dkwX25_hazard_0 ++ dktX25_hazard_1
theorem dksX25_hazard_0 : cX25_hazard.data.toList.drop 0 = dktX25_hazard_0 := by decide +kernel
theorem dksX25_hazard_1 : cX25_hazard.data.toList.drop 23 = dktX25_hazard_1 := dk_seg dksX25_hazard_0 23 rfl rfl
theorem dksX25_hazard_2 : cX25_hazard.data.toList.drop 47 = dktX25_hazard_2 := dk_seg dksX25_hazard_1 24 rfl rfl
theorem dX25_hazard_0 : decode cX25_hazard 0 = .ok (.aload_n 0, 1) := dk_42 (dk_at dksX25_hazard_0 0 rfl rfl)
theorem dX25_hazard_1 : decode cX25_hazard 1 = .ok (.lload_n 1, 1) := dk_31 (dk_at dksX25_hazard_0 1 rfl rfl)
theorem dX25_hazard_2 : decode cX25_hazard 2 = .ok (.invokevirtual 45, 3) := dk_182 0 45 (dk_at dksX25_hazard_0 2 rfl rfl)
theorem dX25_hazard_5 : decode cX25_hazard 5 = .ok (.ifCond .eq 36, 3) := dk_153 0 36 (dk_at dksX25_hazard_0 5 rfl rfl)
theorem dX25_hazard_8 : decode cX25_hazard 8 = .ok (.lload_n 3, 1) := dk_33 (dk_at dksX25_hazard_0 8 rfl rfl)
theorem dX25_hazard_9 : decode cX25_hazard 9 = .ok (.lconst 0, 1) := dk_9 (dk_at dksX25_hazard_0 9 rfl rfl)
theorem dX25_hazard_10 : decode cX25_hazard 10 = .ok (.lcmp, 1) := dk_148 (dk_at dksX25_hazard_0 10 rfl rfl)
theorem dX25_hazard_11 : decode cX25_hazard 11 = .ok (.ifCond .lt 30, 3) := dk_155 0 30 (dk_at dksX25_hazard_0 11 rfl rfl)
theorem dX25_hazard_14 : decode cX25_hazard 14 = .ok (.lload_n 3, 1) := dk_33 (dk_at dksX25_hazard_0 14 rfl rfl)
theorem dX25_hazard_15 : decode cX25_hazard 15 = .ok (.ldc2_w 72, 3) := dk_20 0 72 (dk_at dksX25_hazard_0 15 rfl rfl)
theorem dX25_hazard_18 : decode cX25_hazard 18 = .ok (.lcmp, 1) := dk_148 (dk_at dksX25_hazard_0 18 rfl rfl)
theorem dX25_hazard_19 : decode cX25_hazard 19 = .ok (.ifCond .ge 22, 3) := dk_156 0 22 (dk_at dksX25_hazard_0 19 rfl rfl)
theorem dX25_hazard_22 : decode cX25_hazard 22 = .ok (.aload_n 0, 1) := dk_42 (dk_at dksX25_hazard_0 22 rfl rfl)
theorem dX25_hazard_23 : decode cX25_hazard 23 = .ok (.getfield 11, 3) := dk_180 0 11 (dk_at dksX25_hazard_1 0 rfl rfl)
theorem dX25_hazard_26 : decode cX25_hazard 26 = .ok (.lload_n 1, 1) := dk_31 (dk_at dksX25_hazard_1 3 rfl rfl)
theorem dX25_hazard_27 : decode cX25_hazard 27 = .ok (.l2i, 1) := dk_136 (dk_at dksX25_hazard_1 4 rfl rfl)
theorem dX25_hazard_28 : decode cX25_hazard 28 = .ok (.aaload, 1) := dk_50 (dk_at dksX25_hazard_1 5 rfl rfl)
theorem dX25_hazard_29 : decode cX25_hazard 29 = .ok (.getfield 74, 3) := dk_180 0 74 (dk_at dksX25_hazard_1 6 rfl rfl)
theorem dX25_hazard_32 : decode cX25_hazard 32 = .ok (.lload_n 3, 1) := dk_33 (dk_at dksX25_hazard_1 9 rfl rfl)
theorem dX25_hazard_33 : decode cX25_hazard 33 = .ok (.l2i, 1) := dk_136 (dk_at dksX25_hazard_1 10 rfl rfl)
theorem dX25_hazard_34 : decode cX25_hazard 34 = .ok (.ishr, 1) := dk_122 (dk_at dksX25_hazard_1 11 rfl rfl)
theorem dX25_hazard_35 : decode cX25_hazard 35 = .ok (.iconst 1, 1) := dk_4 (dk_at dksX25_hazard_1 12 rfl rfl)
theorem dX25_hazard_36 : decode cX25_hazard 36 = .ok (.iand, 1) := dk_126 (dk_at dksX25_hazard_1 13 rfl rfl)
theorem dX25_hazard_37 : decode cX25_hazard 37 = .ok (.iconst 1, 1) := dk_4 (dk_at dksX25_hazard_1 14 rfl rfl)
theorem dX25_hazard_38 : decode cX25_hazard 38 = .ok (.if_icmp .ne 5, 3) := dk_160 0 5 (dk_at dksX25_hazard_1 15 rfl rfl)
theorem dX25_hazard_41 : decode cX25_hazard 41 = .ok (.iconst 0, 1) := dk_3 (dk_at dksX25_hazard_1 18 rfl rfl)
theorem dX25_hazard_42 : decode cX25_hazard 42 = .ok (.ireturn, 1) := dk_172 (dk_at dksX25_hazard_1 19 rfl rfl)
theorem dX25_hazard_43 : decode cX25_hazard 43 = .ok (.aload_n 0, 1) := dk_42 (dk_at dksX25_hazard_1 20 rfl rfl)
theorem dX25_hazard_44 : decode cX25_hazard 44 = .ok (.getfield 11, 3) := dk_180 0 11 (dk_at dksX25_hazard_1 21 rfl rfl)
theorem dX25_hazard_47 : decode cX25_hazard 47 = .ok (.lload_n 1, 1) := dk_31 (dk_at dksX25_hazard_2 0 rfl rfl)
theorem dX25_hazard_48 : decode cX25_hazard 48 = .ok (.l2i, 1) := dk_136 (dk_at dksX25_hazard_2 1 rfl rfl)
theorem dX25_hazard_49 : decode cX25_hazard 49 = .ok (.aaload, 1) := dk_50 (dk_at dksX25_hazard_2 2 rfl rfl)
theorem dX25_hazard_50 : decode cX25_hazard 50 = .ok (.dup, 1) := dk_89 (dk_at dksX25_hazard_2 3 rfl rfl)
theorem dX25_hazard_51 : decode cX25_hazard 51 = .ok (.getfield 74, 3) := dk_180 0 74 (dk_at dksX25_hazard_2 4 rfl rfl)
theorem dX25_hazard_54 : decode cX25_hazard 54 = .ok (.iconst 1, 1) := dk_4 (dk_at dksX25_hazard_2 7 rfl rfl)
theorem dX25_hazard_55 : decode cX25_hazard 55 = .ok (.lload_n 3, 1) := dk_33 (dk_at dksX25_hazard_2 8 rfl rfl)
theorem dX25_hazard_56 : decode cX25_hazard 56 = .ok (.l2i, 1) := dk_136 (dk_at dksX25_hazard_2 9 rfl rfl)
theorem dX25_hazard_57 : decode cX25_hazard 57 = .ok (.ishl, 1) := dk_120 (dk_at dksX25_hazard_2 10 rfl rfl)
theorem dX25_hazard_58 : decode cX25_hazard 58 = .ok (.ior, 1) := dk_128 (dk_at dksX25_hazard_2 11 rfl rfl)
theorem dX25_hazard_59 : decode cX25_hazard 59 = .ok (.putfield 74, 3) := dk_181 0 74 (dk_at dksX25_hazard_2 12 rfl rfl)
theorem dX25_hazard_62 : decode cX25_hazard 62 = .ok (.iconst 1, 1) := dk_4 (dk_at dksX25_hazard_2 15 rfl rfl)
theorem dX25_hazard_63 : decode cX25_hazard 63 = .ok (.ireturn, 1) := dk_172 (dk_at dksX25_hazard_2 16 rfl rfl)
abbrev cX25_option : ByteArray := prog_29_method_12_code
def yX25_option : MethodName := ⟨RX25, "option", "(JJ)Z"⟩
def dkwX25_option_2 : List UInt8 := [33, 136, 181, 0, 79, 4, 172]
abbrev dktX25_option_2 : List UInt8 := dkwX25_option_2 ++ []
def dkwX25_option_1 : List UInt8 := [180, 0, 11, 31, 136, 50, 180, 0, 79, 133, 33, 148, 154, 0, 5, 3, 172, 42, 180, 0, 11, 31, 136, 50]
abbrev dktX25_option_1 : List UInt8 := dkwX25_option_1 ++ dktX25_option_2
def dkwX25_option_0 : List UInt8 := [42, 31, 182, 0, 45, 153, 0, 33, 33, 9, 148, 155, 0, 27, 33, 20, 0, 77, 148, 156, 0, 19, 42]
abbrev dktX25_option_0 : List UInt8 := dkwX25_option_0 ++ dktX25_option_1
theorem dksX25_option_0 : cX25_option.data.toList.drop 0 = dktX25_option_0 := by decide +kernel
theorem dksX25_option_1 : cX25_option.data.toList.drop 23 = dktX25_option_1 := dk_seg dksX25_option_0 23 rfl rfl
theorem dksX25_option_2 : cX25_option.data.toList.drop 47 = dktX25_option_2 := dk_seg dksX25_option_1 24 rfl rfl
theorem dX25_option_0 : decode cX25_option 0 = .ok (.aload_n 0, 1) := dk_42 (dk_at dksX25_option_0 0 rfl rfl)
theorem dX25_option_1 : decode cX25_option 1 = .ok (.lload_n 1, 1) := dk_31 (dk_at dksX25_option_0 1 rfl rfl)
theorem dX25_option_2 : decode cX25_option 2 = .ok (.invokevirtual 45, 3) := dk_182 0 45 (dk_at dksX25_option_0 2 rfl rfl)
theorem dX25_option_5 : decode cX25_option 5 = .ok (.ifCond .eq 33, 3) := dk_153 0 33 (dk_at dksX25_option_0 5 rfl rfl)
theorem dX25_option_8 : decode cX25_option 8 = .ok (.lload_n 3, 1) := dk_33 (dk_at dksX25_option_0 8 rfl rfl)
theorem dX25_option_9 : decode cX25_option 9 = .ok (.lconst 0, 1) := dk_9 (dk_at dksX25_option_0 9 rfl rfl)
theorem dX25_option_10 : decode cX25_option 10 = .ok (.lcmp, 1) := dk_148 (dk_at dksX25_option_0 10 rfl rfl)
theorem dX25_option_11 : decode cX25_option 11 = .ok (.ifCond .lt 27, 3) := dk_155 0 27 (dk_at dksX25_option_0 11 rfl rfl)
theorem dX25_option_14 : decode cX25_option 14 = .ok (.lload_n 3, 1) := dk_33 (dk_at dksX25_option_0 14 rfl rfl)
theorem dX25_option_15 : decode cX25_option 15 = .ok (.ldc2_w 77, 3) := dk_20 0 77 (dk_at dksX25_option_0 15 rfl rfl)
theorem dX25_option_18 : decode cX25_option 18 = .ok (.lcmp, 1) := dk_148 (dk_at dksX25_option_0 18 rfl rfl)
theorem dX25_option_19 : decode cX25_option 19 = .ok (.ifCond .ge 19, 3) := dk_156 0 19 (dk_at dksX25_option_0 19 rfl rfl)
theorem dX25_option_22 : decode cX25_option 22 = .ok (.aload_n 0, 1) := dk_42 (dk_at dksX25_option_0 22 rfl rfl)
theorem dX25_option_23 : decode cX25_option 23 = .ok (.getfield 11, 3) := dk_180 0 11 (dk_at dksX25_option_1 0 rfl rfl)
theorem dX25_option_26 : decode cX25_option 26 = .ok (.lload_n 1, 1) := dk_31 (dk_at dksX25_option_1 3 rfl rfl)
theorem dX25_option_27 : decode cX25_option 27 = .ok (.l2i, 1) := dk_136 (dk_at dksX25_option_1 4 rfl rfl)
theorem dX25_option_28 : decode cX25_option 28 = .ok (.aaload, 1) := dk_50 (dk_at dksX25_option_1 5 rfl rfl)
theorem dX25_option_29 : decode cX25_option 29 = .ok (.getfield 79, 3) := dk_180 0 79 (dk_at dksX25_option_1 6 rfl rfl)
theorem dX25_option_32 : decode cX25_option 32 = .ok (.i2l, 1) := dk_133 (dk_at dksX25_option_1 9 rfl rfl)
theorem dX25_option_33 : decode cX25_option 33 = .ok (.lload_n 3, 1) := dk_33 (dk_at dksX25_option_1 10 rfl rfl)
theorem dX25_option_34 : decode cX25_option 34 = .ok (.lcmp, 1) := dk_148 (dk_at dksX25_option_1 11 rfl rfl)
theorem dX25_option_35 : decode cX25_option 35 = .ok (.ifCond .ne 5, 3) := dk_154 0 5 (dk_at dksX25_option_1 12 rfl rfl)
theorem dX25_option_38 : decode cX25_option 38 = .ok (.iconst 0, 1) := dk_3 (dk_at dksX25_option_1 15 rfl rfl)
theorem dX25_option_39 : decode cX25_option 39 = .ok (.ireturn, 1) := dk_172 (dk_at dksX25_option_1 16 rfl rfl)
theorem dX25_option_40 : decode cX25_option 40 = .ok (.aload_n 0, 1) := dk_42 (dk_at dksX25_option_1 17 rfl rfl)
theorem dX25_option_41 : decode cX25_option 41 = .ok (.getfield 11, 3) := dk_180 0 11 (dk_at dksX25_option_1 18 rfl rfl)
theorem dX25_option_44 : decode cX25_option 44 = .ok (.lload_n 1, 1) := dk_31 (dk_at dksX25_option_1 21 rfl rfl)
theorem dX25_option_45 : decode cX25_option 45 = .ok (.l2i, 1) := dk_136 (dk_at dksX25_option_1 22 rfl rfl)
theorem dX25_option_46 : decode cX25_option 46 = .ok (.aaload, 1) := dk_50 (dk_at dksX25_option_1 23 rfl rfl)
theorem dX25_option_47 : decode cX25_option 47 = .ok (.lload_n 3, 1) := dk_33 (dk_at dksX25_option_2 0 rfl rfl)
theorem dX25_option_48 : decode cX25_option 48 = .ok (.l2i, 1) := dk_136 (dk_at dksX25_option_2 1 rfl rfl)
theorem dX25_option_49 : decode cX25_option 49 = .ok (.putfield 79, 3) := dk_181 0 79 (dk_at dksX25_option_2 2 rfl rfl)
theorem dX25_option_52 : decode cX25_option 52 = .ok (.iconst 1, 1) := dk_4 (dk_at dksX25_option_2 5 rfl rfl)
theorem dX25_option_53 : decode cX25_option 53 = .ok (.ireturn, 1) := dk_172 (dk_at dksX25_option_2 6 rfl rfl)
abbrev cX25_damage : ByteArray := prog_29_method_13_code
def yX25_damage : MethodName := ⟨RX25, "damage", "(JJ)I"⟩
def dkwX25_damage_2 : List UInt8 := [21, 5, 172]
abbrev dktX25_damage_2 : List UInt8 := dkwX25_damage_2 ++ []
def dkwX25_damage_1 : List UInt8 := [42, 180, 0, 11, 31, 136, 50, 180, 0, 82, 54, 5, 42, 180, 0, 11, 31, 136, 50, 33, 136, 181, 0, 82]
abbrev dktX25_damage_1 : List UInt8 := dkwX25_damage_1 ++ dktX25_damage_2
def dkwX25_damage_0 : List UInt8 := [42, 31, 182, 0, 45, 153, 0, 17, 33, 9, 148, 155, 0, 11, 33, 20, 0, 77, 148, 155, 0, 5, 2, 172]
abbrev dktX25_damage_0 : List UInt8 := dkwX25_damage_0 ++ dktX25_damage_1
theorem dksX25_damage_0 : cX25_damage.data.toList.drop 0 = dktX25_damage_0 := by decide +kernel
theorem dksX25_damage_1 : cX25_damage.data.toList.drop 24 = dktX25_damage_1 := dk_seg dksX25_damage_0 24 rfl rfl
theorem dksX25_damage_2 : cX25_damage.data.toList.drop 48 = dktX25_damage_2 := dk_seg dksX25_damage_1 24 rfl rfl
theorem dX25_damage_0 : decode cX25_damage 0 = .ok (.aload_n 0, 1) := dk_42 (dk_at dksX25_damage_0 0 rfl rfl)
theorem dX25_damage_1 : decode cX25_damage 1 = .ok (.lload_n 1, 1) := dk_31 (dk_at dksX25_damage_0 1 rfl rfl)
theorem dX25_damage_2 : decode cX25_damage 2 = .ok (.invokevirtual 45, 3) := dk_182 0 45 (dk_at dksX25_damage_0 2 rfl rfl)
theorem dX25_damage_5 : decode cX25_damage 5 = .ok (.ifCond .eq 17, 3) := dk_153 0 17 (dk_at dksX25_damage_0 5 rfl rfl)
theorem dX25_damage_8 : decode cX25_damage 8 = .ok (.lload_n 3, 1) := dk_33 (dk_at dksX25_damage_0 8 rfl rfl)
theorem dX25_damage_9 : decode cX25_damage 9 = .ok (.lconst 0, 1) := dk_9 (dk_at dksX25_damage_0 9 rfl rfl)
theorem dX25_damage_10 : decode cX25_damage 10 = .ok (.lcmp, 1) := dk_148 (dk_at dksX25_damage_0 10 rfl rfl)
theorem dX25_damage_11 : decode cX25_damage 11 = .ok (.ifCond .lt 11, 3) := dk_155 0 11 (dk_at dksX25_damage_0 11 rfl rfl)
theorem dX25_damage_14 : decode cX25_damage 14 = .ok (.lload_n 3, 1) := dk_33 (dk_at dksX25_damage_0 14 rfl rfl)
theorem dX25_damage_15 : decode cX25_damage 15 = .ok (.ldc2_w 77, 3) := dk_20 0 77 (dk_at dksX25_damage_0 15 rfl rfl)
theorem dX25_damage_18 : decode cX25_damage 18 = .ok (.lcmp, 1) := dk_148 (dk_at dksX25_damage_0 18 rfl rfl)
theorem dX25_damage_19 : decode cX25_damage 19 = .ok (.ifCond .lt 5, 3) := dk_155 0 5 (dk_at dksX25_damage_0 19 rfl rfl)
theorem dX25_damage_22 : decode cX25_damage 22 = .ok (.iconst (-1), 1) := dk_2 (dk_at dksX25_damage_0 22 rfl rfl)
theorem dX25_damage_23 : decode cX25_damage 23 = .ok (.ireturn, 1) := dk_172 (dk_at dksX25_damage_0 23 rfl rfl)
theorem dX25_damage_24 : decode cX25_damage 24 = .ok (.aload_n 0, 1) := dk_42 (dk_at dksX25_damage_1 0 rfl rfl)
theorem dX25_damage_25 : decode cX25_damage 25 = .ok (.getfield 11, 3) := dk_180 0 11 (dk_at dksX25_damage_1 1 rfl rfl)
theorem dX25_damage_28 : decode cX25_damage 28 = .ok (.lload_n 1, 1) := dk_31 (dk_at dksX25_damage_1 4 rfl rfl)
theorem dX25_damage_29 : decode cX25_damage 29 = .ok (.l2i, 1) := dk_136 (dk_at dksX25_damage_1 5 rfl rfl)
theorem dX25_damage_30 : decode cX25_damage 30 = .ok (.aaload, 1) := dk_50 (dk_at dksX25_damage_1 6 rfl rfl)
theorem dX25_damage_31 : decode cX25_damage 31 = .ok (.getfield 82, 3) := dk_180 0 82 (dk_at dksX25_damage_1 7 rfl rfl)
theorem dX25_damage_34 : decode cX25_damage 34 = .ok (.istore 5, 2) := dk_54 5 (dk_at dksX25_damage_1 10 rfl rfl)
theorem dX25_damage_36 : decode cX25_damage 36 = .ok (.aload_n 0, 1) := dk_42 (dk_at dksX25_damage_1 12 rfl rfl)
theorem dX25_damage_37 : decode cX25_damage 37 = .ok (.getfield 11, 3) := dk_180 0 11 (dk_at dksX25_damage_1 13 rfl rfl)
theorem dX25_damage_40 : decode cX25_damage 40 = .ok (.lload_n 1, 1) := dk_31 (dk_at dksX25_damage_1 16 rfl rfl)
theorem dX25_damage_41 : decode cX25_damage 41 = .ok (.l2i, 1) := dk_136 (dk_at dksX25_damage_1 17 rfl rfl)
theorem dX25_damage_42 : decode cX25_damage 42 = .ok (.aaload, 1) := dk_50 (dk_at dksX25_damage_1 18 rfl rfl)
theorem dX25_damage_43 : decode cX25_damage 43 = .ok (.lload_n 3, 1) := dk_33 (dk_at dksX25_damage_1 19 rfl rfl)
theorem dX25_damage_44 : decode cX25_damage 44 = .ok (.l2i, 1) := dk_136 (dk_at dksX25_damage_1 20 rfl rfl)
theorem dX25_damage_45 : decode cX25_damage 45 = .ok (.putfield 82, 3) := dk_181 0 82 (dk_at dksX25_damage_1 21 rfl rfl)
theorem dX25_damage_48 : decode cX25_damage 48 = .ok (.iload 5, 2) := dk_21 5 (dk_at dksX25_damage_2 0 rfl rfl)
theorem dX25_damage_50 : decode cX25_damage 50 = .ok (.ireturn, 1) := dk_172 (dk_at dksX25_damage_2 2 rfl rfl)
abbrev cX25_copy : ByteArray := prog_29_method_3_code
def yX25_copy : MethodName := ⟨RX25, "copy", "(LWasteHouse$PartGraphs$Product;)V"⟩
def dkwX25_copy_4 : List UInt8 := [180, 0, 32, 184, 0, 39, 177]
abbrev dktX25_copy_4 : List UInt8 := dkwX25_copy_4 ++ []
def dkwX25_copy_3 : List UInt8 := [180, 0, 21, 3, 42, 180, 0, 32, 184, 0, 39, 43, 180, 0, 24, 3, 42, 180, 0, 24, 3, 42]
abbrev dktX25_copy_3 : List UInt8 := dkwX25_copy_3 ++ dktX25_copy_4
def dkwX25_copy_2 : List UInt8 := [43, 180, 0, 17, 3, 42, 180, 0, 17, 3, 42, 180, 0, 32, 184, 0, 39, 43, 180, 0, 21, 3, 42]
abbrev dktX25_copy_2 : List UInt8 := dkwX25_copy_2 ++ dktX25_copy_3
def dkwX25_copy_1 : List UInt8 := [162, 0, 24, 42, 180, 0, 11, 28, 50, 43, 180, 0, 11, 28, 50, 182, 0, 35, 132, 2, 1, 167, 255, 230]
abbrev dktX25_copy_1 : List UInt8 := dkwX25_copy_1 ++ dktX25_copy_2
def dkwX25_copy_0 : List UInt8 := [42, 43, 180, 0, 28, 181, 0, 28, 42, 43, 180, 0, 32, 181, 0, 32, 3, 61, 28, 42, 180, 0, 28]
abbrev dktX25_copy_0 : List UInt8 := dkwX25_copy_0 ++ dktX25_copy_1
theorem dksX25_copy_0 : cX25_copy.data.toList.drop 0 = dktX25_copy_0 := by decide +kernel
theorem dksX25_copy_1 : cX25_copy.data.toList.drop 23 = dktX25_copy_1 := dk_seg dksX25_copy_0 23 rfl rfl
theorem dksX25_copy_2 : cX25_copy.data.toList.drop 47 = dktX25_copy_2 := dk_seg dksX25_copy_1 24 rfl rfl
theorem dksX25_copy_3 : cX25_copy.data.toList.drop 70 = dktX25_copy_3 := dk_seg dksX25_copy_2 23 rfl rfl
theorem dksX25_copy_4 : cX25_copy.data.toList.drop 92 = dktX25_copy_4 := dk_seg dksX25_copy_3 22 rfl rfl
theorem dX25_copy_0 : decode cX25_copy 0 = .ok (.aload_n 0, 1) := dk_42 (dk_at dksX25_copy_0 0 rfl rfl)
theorem dX25_copy_1 : decode cX25_copy 1 = .ok (.aload_n 1, 1) := dk_43 (dk_at dksX25_copy_0 1 rfl rfl)
theorem dX25_copy_2 : decode cX25_copy 2 = .ok (.getfield 28, 3) := dk_180 0 28 (dk_at dksX25_copy_0 2 rfl rfl)
theorem dX25_copy_5 : decode cX25_copy 5 = .ok (.putfield 28, 3) := dk_181 0 28 (dk_at dksX25_copy_0 5 rfl rfl)
theorem dX25_copy_8 : decode cX25_copy 8 = .ok (.aload_n 0, 1) := dk_42 (dk_at dksX25_copy_0 8 rfl rfl)
theorem dX25_copy_9 : decode cX25_copy 9 = .ok (.aload_n 1, 1) := dk_43 (dk_at dksX25_copy_0 9 rfl rfl)
theorem dX25_copy_10 : decode cX25_copy 10 = .ok (.getfield 32, 3) := dk_180 0 32 (dk_at dksX25_copy_0 10 rfl rfl)
theorem dX25_copy_13 : decode cX25_copy 13 = .ok (.putfield 32, 3) := dk_181 0 32 (dk_at dksX25_copy_0 13 rfl rfl)
theorem dX25_copy_16 : decode cX25_copy 16 = .ok (.iconst 0, 1) := dk_3 (dk_at dksX25_copy_0 16 rfl rfl)
theorem dX25_copy_17 : decode cX25_copy 17 = .ok (.istore_n 2, 1) := dk_61 (dk_at dksX25_copy_0 17 rfl rfl)
theorem dX25_copy_18 : decode cX25_copy 18 = .ok (.iload_n 2, 1) := dk_28 (dk_at dksX25_copy_0 18 rfl rfl)
theorem dX25_copy_19 : decode cX25_copy 19 = .ok (.aload_n 0, 1) := dk_42 (dk_at dksX25_copy_0 19 rfl rfl)
theorem dX25_copy_20 : decode cX25_copy 20 = .ok (.getfield 28, 3) := dk_180 0 28 (dk_at dksX25_copy_0 20 rfl rfl)
theorem dX25_copy_23 : decode cX25_copy 23 = .ok (.if_icmp .ge 24, 3) := dk_162 0 24 (dk_at dksX25_copy_1 0 rfl rfl)
theorem dX25_copy_26 : decode cX25_copy 26 = .ok (.aload_n 0, 1) := dk_42 (dk_at dksX25_copy_1 3 rfl rfl)
theorem dX25_copy_27 : decode cX25_copy 27 = .ok (.getfield 11, 3) := dk_180 0 11 (dk_at dksX25_copy_1 4 rfl rfl)
theorem dX25_copy_30 : decode cX25_copy 30 = .ok (.iload_n 2, 1) := dk_28 (dk_at dksX25_copy_1 7 rfl rfl)
theorem dX25_copy_31 : decode cX25_copy 31 = .ok (.aaload, 1) := dk_50 (dk_at dksX25_copy_1 8 rfl rfl)
theorem dX25_copy_32 : decode cX25_copy 32 = .ok (.aload_n 1, 1) := dk_43 (dk_at dksX25_copy_1 9 rfl rfl)
theorem dX25_copy_33 : decode cX25_copy 33 = .ok (.getfield 11, 3) := dk_180 0 11 (dk_at dksX25_copy_1 10 rfl rfl)
theorem dX25_copy_36 : decode cX25_copy 36 = .ok (.iload_n 2, 1) := dk_28 (dk_at dksX25_copy_1 13 rfl rfl)
theorem dX25_copy_37 : decode cX25_copy 37 = .ok (.aaload, 1) := dk_50 (dk_at dksX25_copy_1 14 rfl rfl)
theorem dX25_copy_38 : decode cX25_copy 38 = .ok (.invokevirtual 35, 3) := dk_182 0 35 (dk_at dksX25_copy_1 15 rfl rfl)
theorem dX25_copy_41 : decode cX25_copy 41 = .ok (.iinc 2 1, 3) := dk_132 2 1 (dk_at dksX25_copy_1 18 rfl rfl)
theorem dX25_copy_44 : decode cX25_copy 44 = .ok (.goto (-26), 3) := dk_167 255 230 (dk_at dksX25_copy_1 21 rfl rfl)
theorem dX25_copy_47 : decode cX25_copy 47 = .ok (.aload_n 1, 1) := dk_43 (dk_at dksX25_copy_2 0 rfl rfl)
theorem dX25_copy_48 : decode cX25_copy 48 = .ok (.getfield 17, 3) := dk_180 0 17 (dk_at dksX25_copy_2 1 rfl rfl)
theorem dX25_copy_51 : decode cX25_copy 51 = .ok (.iconst 0, 1) := dk_3 (dk_at dksX25_copy_2 4 rfl rfl)
theorem dX25_copy_52 : decode cX25_copy 52 = .ok (.aload_n 0, 1) := dk_42 (dk_at dksX25_copy_2 5 rfl rfl)
theorem dX25_copy_53 : decode cX25_copy 53 = .ok (.getfield 17, 3) := dk_180 0 17 (dk_at dksX25_copy_2 6 rfl rfl)
theorem dX25_copy_56 : decode cX25_copy 56 = .ok (.iconst 0, 1) := dk_3 (dk_at dksX25_copy_2 9 rfl rfl)
theorem dX25_copy_57 : decode cX25_copy 57 = .ok (.aload_n 0, 1) := dk_42 (dk_at dksX25_copy_2 10 rfl rfl)
theorem dX25_copy_58 : decode cX25_copy 58 = .ok (.getfield 32, 3) := dk_180 0 32 (dk_at dksX25_copy_2 11 rfl rfl)
theorem dX25_copy_61 : decode cX25_copy 61 = .ok (.invokestatic 39, 3) := dk_184 0 39 (dk_at dksX25_copy_2 14 rfl rfl)
theorem dX25_copy_64 : decode cX25_copy 64 = .ok (.aload_n 1, 1) := dk_43 (dk_at dksX25_copy_2 17 rfl rfl)
theorem dX25_copy_65 : decode cX25_copy 65 = .ok (.getfield 21, 3) := dk_180 0 21 (dk_at dksX25_copy_2 18 rfl rfl)
theorem dX25_copy_68 : decode cX25_copy 68 = .ok (.iconst 0, 1) := dk_3 (dk_at dksX25_copy_2 21 rfl rfl)
theorem dX25_copy_69 : decode cX25_copy 69 = .ok (.aload_n 0, 1) := dk_42 (dk_at dksX25_copy_2 22 rfl rfl)
theorem dX25_copy_70 : decode cX25_copy 70 = .ok (.getfield 21, 3) := dk_180 0 21 (dk_at dksX25_copy_3 0 rfl rfl)
theorem dX25_copy_73 : decode cX25_copy 73 = .ok (.iconst 0, 1) := dk_3 (dk_at dksX25_copy_3 3 rfl rfl)
theorem dX25_copy_74 : decode cX25_copy 74 = .ok (.aload_n 0, 1) := dk_42 (dk_at dksX25_copy_3 4 rfl rfl)
theorem dX25_copy_75 : decode cX25_copy 75 = .ok (.getfield 32, 3) := dk_180 0 32 (dk_at dksX25_copy_3 5 rfl rfl)
theorem dX25_copy_78 : decode cX25_copy 78 = .ok (.invokestatic 39, 3) := dk_184 0 39 (dk_at dksX25_copy_3 8 rfl rfl)
theorem dX25_copy_81 : decode cX25_copy 81 = .ok (.aload_n 1, 1) := dk_43 (dk_at dksX25_copy_3 11 rfl rfl)
theorem dX25_copy_82 : decode cX25_copy 82 = .ok (.getfield 24, 3) := dk_180 0 24 (dk_at dksX25_copy_3 12 rfl rfl)
theorem dX25_copy_85 : decode cX25_copy 85 = .ok (.iconst 0, 1) := dk_3 (dk_at dksX25_copy_3 15 rfl rfl)
theorem dX25_copy_86 : decode cX25_copy 86 = .ok (.aload_n 0, 1) := dk_42 (dk_at dksX25_copy_3 16 rfl rfl)
theorem dX25_copy_87 : decode cX25_copy 87 = .ok (.getfield 24, 3) := dk_180 0 24 (dk_at dksX25_copy_3 17 rfl rfl)
theorem dX25_copy_90 : decode cX25_copy 90 = .ok (.iconst 0, 1) := dk_3 (dk_at dksX25_copy_3 20 rfl rfl)
theorem dX25_copy_91 : decode cX25_copy 91 = .ok (.aload_n 0, 1) := dk_42 (dk_at dksX25_copy_3 21 rfl rfl)
theorem dX25_copy_92 : decode cX25_copy 92 = .ok (.getfield 32, 3) := dk_180 0 32 (dk_at dksX25_copy_4 0 rfl rfl)
theorem dX25_copy_95 : decode cX25_copy 95 = .ok (.invokestatic 39, 3) := dk_184 0 39 (dk_at dksX25_copy_4 3 rfl rfl)
theorem dX25_copy_98 : decode cX25_copy 98 = .ok (.return_, 1) := dk_177 (dk_at dksX25_copy_4 6 rfl rfl)
abbrev cX25_hanging : ByteArray := prog_29_method_15_code
def yX25_hanging : MethodName := ⟨RX25, "hanging", "(II)I"⟩
def dkwX25_hanging_3 : List UInt8 := [128, 62, 132, 5, 1, 167, 255, 200, 167, 255, 185, 29, 172]
abbrev dktX25_hanging_3 : List UInt8 := dkwX25_hanging_3 ++ []
def dkwX25_hanging_2 : List UInt8 := [128, 54, 6, 29, 21, 6, 28, 126, 154, 0, 15, 21, 6, 29, 126, 153, 0, 8, 21, 6, 167, 0, 4, 3]
abbrev dktX25_hanging_2 : List UInt8 := dkwX25_hanging_2 ++ dktX25_hanging_3
def dkwX25_hanging_1 : List UInt8 := [180, 0, 32, 162, 0, 53, 4, 42, 180, 0, 17, 21, 5, 51, 120, 4, 42, 180, 0, 21, 21, 5, 51, 120]
abbrev dktX25_hanging_1 : List UInt8 := dkwX25_hanging_1 ++ dktX25_hanging_2
def dkwX25_hanging_0 : List UInt8 := [4, 27, 120, 62, 3, 54, 4, 29, 21, 4, 159, 0, 71, 29, 54, 4, 3, 54, 5, 21, 5, 42]
abbrev dktX25_hanging_0 : List UInt8 := dkwX25_hanging_0 ++ dktX25_hanging_1
theorem dksX25_hanging_0 : cX25_hanging.data.toList.drop 0 = dktX25_hanging_0 := by decide +kernel
theorem dksX25_hanging_1 : cX25_hanging.data.toList.drop 22 = dktX25_hanging_1 := dk_seg dksX25_hanging_0 22 rfl rfl
theorem dksX25_hanging_2 : cX25_hanging.data.toList.drop 46 = dktX25_hanging_2 := dk_seg dksX25_hanging_1 24 rfl rfl
theorem dksX25_hanging_3 : cX25_hanging.data.toList.drop 70 = dktX25_hanging_3 := dk_seg dksX25_hanging_2 24 rfl rfl
theorem dX25_hanging_0 : decode cX25_hanging 0 = .ok (.iconst 1, 1) := dk_4 (dk_at dksX25_hanging_0 0 rfl rfl)
theorem dX25_hanging_1 : decode cX25_hanging 1 = .ok (.iload_n 1, 1) := dk_27 (dk_at dksX25_hanging_0 1 rfl rfl)
theorem dX25_hanging_2 : decode cX25_hanging 2 = .ok (.ishl, 1) := dk_120 (dk_at dksX25_hanging_0 2 rfl rfl)
theorem dX25_hanging_3 : decode cX25_hanging 3 = .ok (.istore_n 3, 1) := dk_62 (dk_at dksX25_hanging_0 3 rfl rfl)
theorem dX25_hanging_4 : decode cX25_hanging 4 = .ok (.iconst 0, 1) := dk_3 (dk_at dksX25_hanging_0 4 rfl rfl)
theorem dX25_hanging_5 : decode cX25_hanging 5 = .ok (.istore 4, 2) := dk_54 4 (dk_at dksX25_hanging_0 5 rfl rfl)
theorem dX25_hanging_7 : decode cX25_hanging 7 = .ok (.iload_n 3, 1) := dk_29 (dk_at dksX25_hanging_0 7 rfl rfl)
theorem dX25_hanging_8 : decode cX25_hanging 8 = .ok (.iload 4, 2) := dk_21 4 (dk_at dksX25_hanging_0 8 rfl rfl)
theorem dX25_hanging_10 : decode cX25_hanging 10 = .ok (.if_icmp .eq 71, 3) := dk_159 0 71 (dk_at dksX25_hanging_0 10 rfl rfl)
theorem dX25_hanging_13 : decode cX25_hanging 13 = .ok (.iload_n 3, 1) := dk_29 (dk_at dksX25_hanging_0 13 rfl rfl)
theorem dX25_hanging_14 : decode cX25_hanging 14 = .ok (.istore 4, 2) := dk_54 4 (dk_at dksX25_hanging_0 14 rfl rfl)
theorem dX25_hanging_16 : decode cX25_hanging 16 = .ok (.iconst 0, 1) := dk_3 (dk_at dksX25_hanging_0 16 rfl rfl)
theorem dX25_hanging_17 : decode cX25_hanging 17 = .ok (.istore 5, 2) := dk_54 5 (dk_at dksX25_hanging_0 17 rfl rfl)
theorem dX25_hanging_19 : decode cX25_hanging 19 = .ok (.iload 5, 2) := dk_21 5 (dk_at dksX25_hanging_0 19 rfl rfl)
theorem dX25_hanging_21 : decode cX25_hanging 21 = .ok (.aload_n 0, 1) := dk_42 (dk_at dksX25_hanging_0 21 rfl rfl)
theorem dX25_hanging_22 : decode cX25_hanging 22 = .ok (.getfield 32, 3) := dk_180 0 32 (dk_at dksX25_hanging_1 0 rfl rfl)
theorem dX25_hanging_25 : decode cX25_hanging 25 = .ok (.if_icmp .ge 53, 3) := dk_162 0 53 (dk_at dksX25_hanging_1 3 rfl rfl)
theorem dX25_hanging_28 : decode cX25_hanging 28 = .ok (.iconst 1, 1) := dk_4 (dk_at dksX25_hanging_1 6 rfl rfl)
theorem dX25_hanging_29 : decode cX25_hanging 29 = .ok (.aload_n 0, 1) := dk_42 (dk_at dksX25_hanging_1 7 rfl rfl)
theorem dX25_hanging_30 : decode cX25_hanging 30 = .ok (.getfield 17, 3) := dk_180 0 17 (dk_at dksX25_hanging_1 8 rfl rfl)
theorem dX25_hanging_33 : decode cX25_hanging 33 = .ok (.iload 5, 2) := dk_21 5 (dk_at dksX25_hanging_1 11 rfl rfl)
theorem dX25_hanging_35 : decode cX25_hanging 35 = .ok (.baload, 1) := dk_51 (dk_at dksX25_hanging_1 13 rfl rfl)
theorem dX25_hanging_36 : decode cX25_hanging 36 = .ok (.ishl, 1) := dk_120 (dk_at dksX25_hanging_1 14 rfl rfl)
theorem dX25_hanging_37 : decode cX25_hanging 37 = .ok (.iconst 1, 1) := dk_4 (dk_at dksX25_hanging_1 15 rfl rfl)
theorem dX25_hanging_38 : decode cX25_hanging 38 = .ok (.aload_n 0, 1) := dk_42 (dk_at dksX25_hanging_1 16 rfl rfl)
theorem dX25_hanging_39 : decode cX25_hanging 39 = .ok (.getfield 21, 3) := dk_180 0 21 (dk_at dksX25_hanging_1 17 rfl rfl)
theorem dX25_hanging_42 : decode cX25_hanging 42 = .ok (.iload 5, 2) := dk_21 5 (dk_at dksX25_hanging_1 20 rfl rfl)
theorem dX25_hanging_44 : decode cX25_hanging 44 = .ok (.baload, 1) := dk_51 (dk_at dksX25_hanging_1 22 rfl rfl)
theorem dX25_hanging_45 : decode cX25_hanging 45 = .ok (.ishl, 1) := dk_120 (dk_at dksX25_hanging_1 23 rfl rfl)
theorem dX25_hanging_46 : decode cX25_hanging 46 = .ok (.ior, 1) := dk_128 (dk_at dksX25_hanging_2 0 rfl rfl)
theorem dX25_hanging_47 : decode cX25_hanging 47 = .ok (.istore 6, 2) := dk_54 6 (dk_at dksX25_hanging_2 1 rfl rfl)
theorem dX25_hanging_49 : decode cX25_hanging 49 = .ok (.iload_n 3, 1) := dk_29 (dk_at dksX25_hanging_2 3 rfl rfl)
theorem dX25_hanging_50 : decode cX25_hanging 50 = .ok (.iload 6, 2) := dk_21 6 (dk_at dksX25_hanging_2 4 rfl rfl)
theorem dX25_hanging_52 : decode cX25_hanging 52 = .ok (.iload_n 2, 1) := dk_28 (dk_at dksX25_hanging_2 6 rfl rfl)
theorem dX25_hanging_53 : decode cX25_hanging 53 = .ok (.iand, 1) := dk_126 (dk_at dksX25_hanging_2 7 rfl rfl)
theorem dX25_hanging_54 : decode cX25_hanging 54 = .ok (.ifCond .ne 15, 3) := dk_154 0 15 (dk_at dksX25_hanging_2 8 rfl rfl)
theorem dX25_hanging_57 : decode cX25_hanging 57 = .ok (.iload 6, 2) := dk_21 6 (dk_at dksX25_hanging_2 11 rfl rfl)
theorem dX25_hanging_59 : decode cX25_hanging 59 = .ok (.iload_n 3, 1) := dk_29 (dk_at dksX25_hanging_2 13 rfl rfl)
theorem dX25_hanging_60 : decode cX25_hanging 60 = .ok (.iand, 1) := dk_126 (dk_at dksX25_hanging_2 14 rfl rfl)
theorem dX25_hanging_61 : decode cX25_hanging 61 = .ok (.ifCond .eq 8, 3) := dk_153 0 8 (dk_at dksX25_hanging_2 15 rfl rfl)
theorem dX25_hanging_64 : decode cX25_hanging 64 = .ok (.iload 6, 2) := dk_21 6 (dk_at dksX25_hanging_2 18 rfl rfl)
theorem dX25_hanging_66 : decode cX25_hanging 66 = .ok (.goto 4, 3) := dk_167 0 4 (dk_at dksX25_hanging_2 20 rfl rfl)
theorem dX25_hanging_69 : decode cX25_hanging 69 = .ok (.iconst 0, 1) := dk_3 (dk_at dksX25_hanging_2 23 rfl rfl)
theorem dX25_hanging_70 : decode cX25_hanging 70 = .ok (.ior, 1) := dk_128 (dk_at dksX25_hanging_3 0 rfl rfl)
theorem dX25_hanging_71 : decode cX25_hanging 71 = .ok (.istore_n 3, 1) := dk_62 (dk_at dksX25_hanging_3 1 rfl rfl)
theorem dX25_hanging_72 : decode cX25_hanging 72 = .ok (.iinc 5 1, 3) := dk_132 5 1 (dk_at dksX25_hanging_3 2 rfl rfl)
theorem dX25_hanging_75 : decode cX25_hanging 75 = .ok (.goto (-56), 3) := dk_167 255 200 (dk_at dksX25_hanging_3 5 rfl rfl)
theorem dX25_hanging_78 : decode cX25_hanging 78 = .ok (.goto (-71), 3) := dk_167 255 185 (dk_at dksX25_hanging_3 8 rfl rfl)
theorem dX25_hanging_81 : decode cX25_hanging 81 = .ok (.iload_n 3, 1) := dk_29 (dk_at dksX25_hanging_3 11 rfl rfl)
theorem dX25_hanging_82 : decode cX25_hanging 82 = .ok (.ireturn, 1) := dk_172 (dk_at dksX25_hanging_3 12 rfl rfl)
theorem q424 : (Jvm.Cond.initialized "WasteHouse$PartGraphs$Product") ∈ lw_all := lw_g (lw_at lw_m1 32 rfl) rfl
theorem q1412 : (Jvm.Cond.instantiable "WasteHouse$PartGraphs$Product" (6 : Nat)) ∈ lw_all := lw_g (lw_at lw_m5 60 rfl) rfl
theorem q1414 : (Jvm.Cond.instanceMethod ({ cls := "WasteHouse$PartGraphs$Product", name := "<init>", desc := "()V" } : Jvm.MethodName)) ∈ lw_all := lw_g (lw_at lw_m5 62 rfl) rfl
theorem q1415 : (Jvm.Cond.code ({ cls := "WasteHouse$PartGraphs$Product", name := "<init>", desc := "()V" } : Jvm.MethodName) prog_29_method_1_code (2 : Nat) (Option.none : Option Jvm.ClassFile.FieldType)) ∈ lw_all := lw_g (lw_at lw_m5 63 rfl) rfl
theorem q1416 : (Jvm.Cond.methodLink "WasteHouse$PartGraphs$Product" (3 : Nat) ({ cls := "java/lang/Object", name := "<init>", desc := "()V" } : Jvm.MethodName)) ∈ lw_all := lw_g (lw_at lw_m5 64 rfl) rfl
theorem q1417 : (Jvm.Cond.classLink "WasteHouse$PartGraphs$Product" (9 : Nat) "WasteHouse$PartGraphs$Part") ∈ lw_all := lw_g (lw_at lw_m5 65 rfl) rfl
theorem q1420 : (Jvm.Cond.methodLinkNest "WasteHouse$PartGraphs$Product" (27 : Nat) ({ cls := "WasteHouse$PartGraphs$Part", name := "<init>", desc := "()V" } : Jvm.MethodName) "WasteHouse") ∈ lw_tbl := lw_at lw_m5 68 rfl
theorem q1431 : (Jvm.Cond.fieldLink "WasteHouse$PartGraphs$Product" (63 : Nat) "WasteHouse$PartGraphs$Part" "covers" "I") ∈ lw_all := lw_g (lw_at lw_m5 79 rfl) rfl
theorem q1434 : (Jvm.Cond.fieldLink "WasteHouse$PartGraphs$Product" (68 : Nat) "WasteHouse$PartGraphs$Part" "bars" "[I") ∈ lw_all := lw_g (lw_at lw_m5 82 rfl) rfl
theorem q1438 : (Jvm.Cond.fieldLink "WasteHouse$PartGraphs$Product" (74 : Nat) "WasteHouse$PartGraphs$Part" "hazards" "I") ∈ lw_all := lw_g (lw_at lw_m5 86 rfl) rfl
theorem q1441 : (Jvm.Cond.fieldLink "WasteHouse$PartGraphs$Product" (79 : Nat) "WasteHouse$PartGraphs$Part" "family" "I") ∈ lw_all := lw_g (lw_at lw_m5 89 rfl) rfl
theorem q1444 : (Jvm.Cond.fieldLink "WasteHouse$PartGraphs$Product" (82 : Nat) "WasteHouse$PartGraphs$Part" "damage" "I") ∈ lw_all := lw_g (lw_at lw_m5 92 rfl) rfl
theorem q1461 : (Jvm.Cond.fieldLink "WasteHouse$PartGraphs$Product" (28 : Nat) "WasteHouse$PartGraphs$Product" "count" "I") ∈ lw_all := lw_g (lw_at lw_m5 109 rfl) rfl
theorem q1464 : (Jvm.Cond.fieldLink "WasteHouse$PartGraphs$Product" (11 : Nat) "WasteHouse$PartGraphs$Product" "parts" "[LWasteHouse$PartGraphs$Part;") ∈ lw_all := lw_g (lw_at lw_m5 112 rfl) rfl
theorem q1467 : (Jvm.Cond.fieldLink "WasteHouse$PartGraphs$Product" (32 : Nat) "WasteHouse$PartGraphs$Product" "fastenings" "I") ∈ lw_all := lw_g (lw_at lw_m5 115 rfl) rfl
theorem q1469 : (Jvm.Cond.fieldLink "WasteHouse$PartGraphs$Product" (17 : Nat) "WasteHouse$PartGraphs$Product" "as" "[B") ∈ lw_all := lw_g (lw_at lw_m5 117 rfl) rfl
theorem q1471 : (Jvm.Cond.fieldLink "WasteHouse$PartGraphs$Product" (21 : Nat) "WasteHouse$PartGraphs$Product" "bs" "[B") ∈ lw_all := lw_g (lw_at lw_m5 119 rfl) rfl
theorem q1473 : (Jvm.Cond.fieldLink "WasteHouse$PartGraphs$Product" (24 : Nat) "WasteHouse$PartGraphs$Product" "kinds" "[B") ∈ lw_all := lw_g (lw_at lw_m5 121 rfl) rfl
theorem q1475 : (Jvm.Cond.lays "WasteHouse$PartGraphs$Product" "WasteHouse$PartGraphs$Product" "count" "I") ∈ lw_all := lw_g (lw_at lw_m5 123 rfl) rfl
theorem q1476 : (Jvm.Cond.soleField "WasteHouse$PartGraphs$Product" "count") ∈ lw_all := lw_g (lw_at lw_m5 124 rfl) rfl
theorem q1477 : (Jvm.Cond.laysFinal "WasteHouse$PartGraphs$Product" "WasteHouse$PartGraphs$Product" "parts" "[LWasteHouse$PartGraphs$Part;") ∈ lw_all := lw_g (lw_at lw_m5 125 rfl) rfl
theorem q1478 : (Jvm.Cond.soleField "WasteHouse$PartGraphs$Product" "parts") ∈ lw_all := lw_g (lw_at lw_m5 126 rfl) rfl
theorem q1479 : (Jvm.Cond.lays "WasteHouse$PartGraphs$Product" "WasteHouse$PartGraphs$Product" "fastenings" "I") ∈ lw_all := lw_g (lw_at lw_m5 127 rfl) rfl
theorem q1480 : (Jvm.Cond.soleField "WasteHouse$PartGraphs$Product" "fastenings") ∈ lw_all := lw_g (lw_at lw_m5 128 rfl) rfl
theorem q1481 : (Jvm.Cond.laysFinal "WasteHouse$PartGraphs$Product" "WasteHouse$PartGraphs$Product" "as" "[B") ∈ lw_all := lw_g (lw_at lw_m5 129 rfl) rfl
theorem q1482 : (Jvm.Cond.soleField "WasteHouse$PartGraphs$Product" "as") ∈ lw_all := lw_g (lw_at lw_m5 130 rfl) rfl
theorem q1483 : (Jvm.Cond.laysFinal "WasteHouse$PartGraphs$Product" "WasteHouse$PartGraphs$Product" "bs" "[B") ∈ lw_all := lw_g (lw_at lw_m5 131 rfl) rfl
theorem q1484 : (Jvm.Cond.soleField "WasteHouse$PartGraphs$Product" "bs") ∈ lw_all := lw_g (lw_at lw_m5 132 rfl) rfl
theorem q1485 : (Jvm.Cond.laysFinal "WasteHouse$PartGraphs$Product" "WasteHouse$PartGraphs$Product" "kinds" "[B") ∈ lw_all := lw_g (lw_at lw_m5 133 rfl) rfl
theorem q1486 : (Jvm.Cond.soleField "WasteHouse$PartGraphs$Product" "kinds") ∈ lw_all := lw_g (lw_at lw_m5 134 rfl) rfl
theorem q1487 : (Jvm.Cond.superclass "WasteHouse$PartGraphs$Product" "java/lang/Object") ∈ lw_all := lw_g (lw_at lw_m5 135 rfl) rfl
theorem q1999 : (Jvm.Cond.selects "WasteHouse$PartGraphs$Product" ({ cls := "java/lang/Object", name := "getClass", desc := "()Ljava/lang/Class;" } : Jvm.MethodName) ({ cls := "java/lang/Object", name := "getClass", desc := "()Ljava/lang/Class;" } : Jvm.MethodName)) ∈ lw_all := lw_g (lw_at lw_m7 167 rfl) rfl
theorem q3109 : (Jvm.Cond.selects "WasteHouse$PartGraphs$Product" ({ cls := "java/lang/Object", name := "equals", desc := "(Ljava/lang/Object;)Z" } : Jvm.MethodName) ({ cls := "java/lang/Object", name := "equals", desc := "(Ljava/lang/Object;)Z" } : Jvm.MethodName)) ∈ lw_all := lw_g (lw_at lw_m12 77 rfl) rfl
theorem q3627 : (Jvm.Cond.selects "WasteHouse$PartGraphs$Product" ({ cls := "java/lang/Object", name := "hashCode", desc := "()I" } : Jvm.MethodName) ({ cls := "java/lang/Object", name := "hashCode", desc := "()I" } : Jvm.MethodName)) ∈ lw_all := lw_g (lw_at lw_m14 115 rfl) rfl
theorem q5574 : (Jvm.Cond.instanceMethod ({ cls := "WasteHouse$PartGraphs$Product", name := "comesOff", desc := "(I)I" } : Jvm.MethodName)) ∈ lw_all := lw_g (lw_at lw_m22 142 rfl) rfl
theorem q5575 : (Jvm.Cond.selects "WasteHouse$PartGraphs$Product" ({ cls := "WasteHouse$PartGraphs$Product", name := "comesOff", desc := "(I)I" } : Jvm.MethodName) ({ cls := "WasteHouse$PartGraphs$Product", name := "comesOff", desc := "(I)I" } : Jvm.MethodName)) ∈ lw_all := lw_g (lw_at lw_m22 143 rfl) rfl
theorem q5576 : (Jvm.Cond.code ({ cls := "WasteHouse$PartGraphs$Product", name := "comesOff", desc := "(I)I" } : Jvm.MethodName) prog_29_method_14_code (5 : Nat) (Option.some Jvm.ClassFile.FieldType.int)) ∈ lw_all := lw_g (lw_at lw_m22 144 rfl) rfl
theorem q5577 : (Jvm.Cond.methodLink "WasteHouse$PartGraphs$Product" (85 : Nat) ({ cls := "WasteHouse$PartGraphs$Part", name := "isFree", desc := "(I)Z" } : Jvm.MethodName)) ∈ lw_all := lw_g (lw_at lw_m22 145 rfl) rfl
theorem q5591 : (Jvm.Cond.instanceMethod ({ cls := "WasteHouse$PartGraphs$Product", name := "isPart", desc := "(J)Z" } : Jvm.MethodName)) ∈ lw_all := lw_g (lw_at lw_m22 159 rfl) rfl
theorem q5592 : (Jvm.Cond.selects "WasteHouse$PartGraphs$Product" ({ cls := "WasteHouse$PartGraphs$Product", name := "isPart", desc := "(J)Z" } : Jvm.MethodName) ({ cls := "WasteHouse$PartGraphs$Product", name := "isPart", desc := "(J)Z" } : Jvm.MethodName)) ∈ lw_all := lw_g (lw_at lw_m22 160 rfl) rfl
theorem q5593 : (Jvm.Cond.code ({ cls := "WasteHouse$PartGraphs$Product", name := "isPart", desc := "(J)Z" } : Jvm.MethodName) prog_29_method_4_code (3 : Nat) (Option.some Jvm.ClassFile.FieldType.boolean)) ∈ lw_all := lw_g (lw_at lw_m22 161 rfl) rfl
theorem q5788 : (Jvm.Cond.instanceMethod ({ cls := "WasteHouse$PartGraphs$Product", name := "clear", desc := "()V" } : Jvm.MethodName)) ∈ lw_all := lw_g (lw_at lw_m23 116 rfl) rfl
theorem q5789 : (Jvm.Cond.selects "WasteHouse$PartGraphs$Product" ({ cls := "WasteHouse$PartGraphs$Product", name := "clear", desc := "()V" } : Jvm.MethodName) ({ cls := "WasteHouse$PartGraphs$Product", name := "clear", desc := "()V" } : Jvm.MethodName)) ∈ lw_all := lw_g (lw_at lw_m23 117 rfl) rfl
theorem q5790 : (Jvm.Cond.code ({ cls := "WasteHouse$PartGraphs$Product", name := "clear", desc := "()V" } : Jvm.MethodName) prog_29_method_2_code (1 : Nat) (Option.none : Option Jvm.ClassFile.FieldType)) ∈ lw_all := lw_g (lw_at lw_m23 118 rfl) rfl
theorem q5859 : (Jvm.Cond.instanceMethod ({ cls := "WasteHouse$PartGraphs$Product", name := "part", desc := "(JJ)I" } : Jvm.MethodName)) ∈ lw_all := lw_g (lw_at lw_m23 187 rfl) rfl
theorem q5860 : (Jvm.Cond.selects "WasteHouse$PartGraphs$Product" ({ cls := "WasteHouse$PartGraphs$Product", name := "part", desc := "(JJ)I" } : Jvm.MethodName) ({ cls := "WasteHouse$PartGraphs$Product", name := "part", desc := "(JJ)I" } : Jvm.MethodName)) ∈ lw_all := lw_g (lw_at lw_m23 188 rfl) rfl
theorem q5861 : (Jvm.Cond.code ({ cls := "WasteHouse$PartGraphs$Product", name := "part", desc := "(JJ)I" } : Jvm.MethodName) prog_29_method_6_code (5 : Nat) (Option.some Jvm.ClassFile.FieldType.int)) ∈ lw_all := lw_g (lw_at lw_m23 189 rfl) rfl
theorem q5862 : (Jvm.Cond.constantLong "WasteHouse$PartGraphs$Product" (49 : Nat) (10 : Int64)) ∈ lw_all := lw_g (lw_at lw_m23 190 rfl) rfl
theorem q5863 : (Jvm.Cond.constantLong "WasteHouse$PartGraphs$Product" (51 : Nat) (1000000 : Int64)) ∈ lw_all := lw_g (lw_at lw_m23 191 rfl) rfl
theorem q5864 : (Jvm.Cond.methodLink "WasteHouse$PartGraphs$Product" (53 : Nat) ({ cls := "WasteHouse$PartGraphs$Part", name := "set", desc := "(II)V" } : Jvm.MethodName)) ∈ lw_all := lw_g (lw_at lw_m23 192 rfl) rfl
theorem q5869 : (Jvm.Cond.instanceMethod ({ cls := "WasteHouse$PartGraphs$Product", name := "cover", desc := "(JJ)Z" } : Jvm.MethodName)) ∈ lw_all := lw_g (lw_at lw_m23 197 rfl) rfl
theorem q5870 : (Jvm.Cond.selects "WasteHouse$PartGraphs$Product" ({ cls := "WasteHouse$PartGraphs$Product", name := "cover", desc := "(JJ)Z" } : Jvm.MethodName) ({ cls := "WasteHouse$PartGraphs$Product", name := "cover", desc := "(JJ)Z" } : Jvm.MethodName)) ∈ lw_all := lw_g (lw_at lw_m23 198 rfl) rfl
theorem q5871 : (Jvm.Cond.code ({ cls := "WasteHouse$PartGraphs$Product", name := "cover", desc := "(JJ)Z" } : Jvm.MethodName) prog_29_method_8_code (5 : Nat) (Option.some Jvm.ClassFile.FieldType.boolean)) ∈ lw_all := lw_g (lw_at lw_m23 199 rfl) rfl
theorem q5872 : (Jvm.Cond.methodLink "WasteHouse$PartGraphs$Product" (57 : Nat) ({ cls := "WasteHouse$PartGraphs$Product", name := "areTwo", desc := "(JJ)Z" } : Jvm.MethodName)) ∈ lw_all := lw_g (lw_at lw_m23 200 rfl) rfl
theorem q5873 : (Jvm.Cond.privateMethod ({ cls := "WasteHouse$PartGraphs$Product", name := "areTwo", desc := "(JJ)Z" } : Jvm.MethodName)) ∈ lw_tbl := lw_at lw_m23 201 rfl
theorem q5874 : (Jvm.Cond.instanceMethod ({ cls := "WasteHouse$PartGraphs$Product", name := "areTwo", desc := "(JJ)Z" } : Jvm.MethodName)) ∈ lw_all := lw_g (lw_at lw_m23 202 rfl) rfl
theorem q5875 : (Jvm.Cond.code ({ cls := "WasteHouse$PartGraphs$Product", name := "areTwo", desc := "(JJ)Z" } : Jvm.MethodName) prog_29_method_5_code (5 : Nat) (Option.some Jvm.ClassFile.FieldType.boolean)) ∈ lw_all := lw_g (lw_at lw_m23 203 rfl) rfl
theorem q5876 : (Jvm.Cond.methodLink "WasteHouse$PartGraphs$Product" (45 : Nat) ({ cls := "WasteHouse$PartGraphs$Product", name := "isPart", desc := "(J)Z" } : Jvm.MethodName)) ∈ lw_all := lw_g (lw_at lw_m23 204 rfl) rfl
theorem q5879 : (Jvm.Cond.instanceMethod ({ cls := "WasteHouse$PartGraphs$Product", name := "canWay", desc := "(JJJ)Z" } : Jvm.MethodName)) ∈ lw_all := lw_g (lw_at lw_m23 207 rfl) rfl
theorem q5880 : (Jvm.Cond.selects "WasteHouse$PartGraphs$Product" ({ cls := "WasteHouse$PartGraphs$Product", name := "canWay", desc := "(JJJ)Z" } : Jvm.MethodName) ({ cls := "WasteHouse$PartGraphs$Product", name := "canWay", desc := "(JJJ)Z" } : Jvm.MethodName)) ∈ lw_all := lw_g (lw_at lw_m23 208 rfl) rfl
theorem q5881 : (Jvm.Cond.code ({ cls := "WasteHouse$PartGraphs$Product", name := "canWay", desc := "(JJJ)Z" } : Jvm.MethodName) prog_29_method_9_code (7 : Nat) (Option.some Jvm.ClassFile.FieldType.boolean)) ∈ lw_all := lw_g (lw_at lw_m23 209 rfl) rfl
theorem q5882 : (Jvm.Cond.constantLong "WasteHouse$PartGraphs$Product" (66 : Nat) (6 : Int64)) ∈ lw_all := lw_g (lw_at lw_m23 210 rfl) rfl
theorem q5884 : (Jvm.Cond.instanceMethod ({ cls := "WasteHouse$PartGraphs$Product", name := "way", desc := "(JJJ)Z" } : Jvm.MethodName)) ∈ lw_all := lw_g (lw_at lw_m23 212 rfl) rfl
theorem q5885 : (Jvm.Cond.selects "WasteHouse$PartGraphs$Product" ({ cls := "WasteHouse$PartGraphs$Product", name := "way", desc := "(JJJ)Z" } : Jvm.MethodName) ({ cls := "WasteHouse$PartGraphs$Product", name := "way", desc := "(JJJ)Z" } : Jvm.MethodName)) ∈ lw_all := lw_g (lw_at lw_m23 213 rfl) rfl
theorem q5886 : (Jvm.Cond.code ({ cls := "WasteHouse$PartGraphs$Product", name := "way", desc := "(JJJ)Z" } : Jvm.MethodName) prog_29_method_10_code (8 : Nat) (Option.some Jvm.ClassFile.FieldType.boolean)) ∈ lw_all := lw_g (lw_at lw_m23 214 rfl) rfl
theorem q5889 : (Jvm.Cond.instanceMethod ({ cls := "WasteHouse$PartGraphs$Product", name := "fasten", desc := "(JJJ)I" } : Jvm.MethodName)) ∈ lw_all := lw_g (lw_at lw_m23 217 rfl) rfl
theorem q5890 : (Jvm.Cond.selects "WasteHouse$PartGraphs$Product" ({ cls := "WasteHouse$PartGraphs$Product", name := "fasten", desc := "(JJJ)I" } : Jvm.MethodName) ({ cls := "WasteHouse$PartGraphs$Product", name := "fasten", desc := "(JJJ)I" } : Jvm.MethodName)) ∈ lw_all := lw_g (lw_at lw_m23 218 rfl) rfl
theorem q5891 : (Jvm.Cond.code ({ cls := "WasteHouse$PartGraphs$Product", name := "fasten", desc := "(JJJ)I" } : Jvm.MethodName) prog_29_method_7_code (7 : Nat) (Option.some Jvm.ClassFile.FieldType.int)) ∈ lw_all := lw_g (lw_at lw_m23 219 rfl) rfl
theorem q5892 : (Jvm.Cond.constantLong "WasteHouse$PartGraphs$Product" (61 : Nat) (3 : Int64)) ∈ lw_all := lw_g (lw_at lw_m23 220 rfl) rfl
theorem q5894 : (Jvm.Cond.instanceMethod ({ cls := "WasteHouse$PartGraphs$Product", name := "hazard", desc := "(JJ)Z" } : Jvm.MethodName)) ∈ lw_all := lw_g (lw_at lw_m23 222 rfl) rfl
theorem q5895 : (Jvm.Cond.selects "WasteHouse$PartGraphs$Product" ({ cls := "WasteHouse$PartGraphs$Product", name := "hazard", desc := "(JJ)Z" } : Jvm.MethodName) ({ cls := "WasteHouse$PartGraphs$Product", name := "hazard", desc := "(JJ)Z" } : Jvm.MethodName)) ∈ lw_all := lw_g (lw_at lw_m23 223 rfl) rfl
theorem q5896 : (Jvm.Cond.code ({ cls := "WasteHouse$PartGraphs$Product", name := "hazard", desc := "(JJ)Z" } : Jvm.MethodName) prog_29_method_11_code (5 : Nat) (Option.some Jvm.ClassFile.FieldType.boolean)) ∈ lw_all := lw_g (lw_at lw_m23 224 rfl) rfl
theorem q5897 : (Jvm.Cond.constantLong "WasteHouse$PartGraphs$Product" (72 : Nat) (8 : Int64)) ∈ lw_all := lw_g (lw_at lw_m23 225 rfl) rfl
theorem q5899 : (Jvm.Cond.instanceMethod ({ cls := "WasteHouse$PartGraphs$Product", name := "option", desc := "(JJ)Z" } : Jvm.MethodName)) ∈ lw_all := lw_g (lw_at lw_m23 227 rfl) rfl
theorem q5900 : (Jvm.Cond.selects "WasteHouse$PartGraphs$Product" ({ cls := "WasteHouse$PartGraphs$Product", name := "option", desc := "(JJ)Z" } : Jvm.MethodName) ({ cls := "WasteHouse$PartGraphs$Product", name := "option", desc := "(JJ)Z" } : Jvm.MethodName)) ∈ lw_all := lw_g (lw_at lw_m23 228 rfl) rfl
theorem q5901 : (Jvm.Cond.code ({ cls := "WasteHouse$PartGraphs$Product", name := "option", desc := "(JJ)Z" } : Jvm.MethodName) prog_29_method_12_code (5 : Nat) (Option.some Jvm.ClassFile.FieldType.boolean)) ∈ lw_all := lw_g (lw_at lw_m23 229 rfl) rfl
theorem q5902 : (Jvm.Cond.constantLong "WasteHouse$PartGraphs$Product" (77 : Nat) (4 : Int64)) ∈ lw_all := lw_g (lw_at lw_m23 230 rfl) rfl
theorem q5904 : (Jvm.Cond.instanceMethod ({ cls := "WasteHouse$PartGraphs$Product", name := "damage", desc := "(JJ)I" } : Jvm.MethodName)) ∈ lw_all := lw_g (lw_at lw_m23 232 rfl) rfl
theorem q5905 : (Jvm.Cond.selects "WasteHouse$PartGraphs$Product" ({ cls := "WasteHouse$PartGraphs$Product", name := "damage", desc := "(JJ)I" } : Jvm.MethodName) ({ cls := "WasteHouse$PartGraphs$Product", name := "damage", desc := "(JJ)I" } : Jvm.MethodName)) ∈ lw_all := lw_g (lw_at lw_m23 233 rfl) rfl
theorem q5906 : (Jvm.Cond.code ({ cls := "WasteHouse$PartGraphs$Product", name := "damage", desc := "(JJ)I" } : Jvm.MethodName) prog_29_method_13_code (6 : Nat) (Option.some Jvm.ClassFile.FieldType.int)) ∈ lw_all := lw_g (lw_at lw_m23 234 rfl) rfl
theorem q5908 : (Jvm.Cond.instanceMethod ({ cls := "WasteHouse$PartGraphs$Product", name := "copy", desc := "(LWasteHouse$PartGraphs$Product;)V" } : Jvm.MethodName)) ∈ lw_all := lw_g (lw_at lw_m23 236 rfl) rfl
theorem q5909 : (Jvm.Cond.selects "WasteHouse$PartGraphs$Product" ({ cls := "WasteHouse$PartGraphs$Product", name := "copy", desc := "(LWasteHouse$PartGraphs$Product;)V" } : Jvm.MethodName) ({ cls := "WasteHouse$PartGraphs$Product", name := "copy", desc := "(LWasteHouse$PartGraphs$Product;)V" } : Jvm.MethodName)) ∈ lw_all := lw_g (lw_at lw_m23 237 rfl) rfl
theorem q5910 : (Jvm.Cond.code ({ cls := "WasteHouse$PartGraphs$Product", name := "copy", desc := "(LWasteHouse$PartGraphs$Product;)V" } : Jvm.MethodName) prog_29_method_3_code (3 : Nat) (Option.none : Option Jvm.ClassFile.FieldType)) ∈ lw_all := lw_g (lw_at lw_m23 238 rfl) rfl
theorem q5911 : (Jvm.Cond.methodLink "WasteHouse$PartGraphs$Product" (35 : Nat) ({ cls := "WasteHouse$PartGraphs$Part", name := "copy", desc := "(LWasteHouse$PartGraphs$Part;)V" } : Jvm.MethodName)) ∈ lw_all := lw_g (lw_at lw_m23 239 rfl) rfl
theorem q5917 : (Jvm.Cond.methodLink "WasteHouse$PartGraphs$Product" (39 : Nat) ({ cls := "java/lang/System", name := "arraycopy", desc := "(Ljava/lang/Object;ILjava/lang/Object;II)V" } : Jvm.MethodName)) ∈ lw_all := lw_g (lw_at lw_m24 5 rfl) rfl
theorem q5971 : (Jvm.Cond.instanceMethod ({ cls := "WasteHouse$PartGraphs$Product", name := "hanging", desc := "(II)I" } : Jvm.MethodName)) ∈ lw_all := lw_g (lw_at lw_m24 59 rfl) rfl
theorem q5972 : (Jvm.Cond.selects "WasteHouse$PartGraphs$Product" ({ cls := "WasteHouse$PartGraphs$Product", name := "hanging", desc := "(II)I" } : Jvm.MethodName) ({ cls := "WasteHouse$PartGraphs$Product", name := "hanging", desc := "(II)I" } : Jvm.MethodName)) ∈ lw_all := lw_g (lw_at lw_m24 60 rfl) rfl
theorem q5973 : (Jvm.Cond.code ({ cls := "WasteHouse$PartGraphs$Product", name := "hanging", desc := "(II)I" } : Jvm.MethodName) prog_29_method_15_code (7 : Nat) (Option.some Jvm.ClassFile.FieldType.int)) ∈ lw_all := lw_g (lw_at lw_m24 61 rfl) rfl
theorem q9651 : (Jvm.Cond.castable "WasteHouse$PartGraphs$Product" "java/lang/Object") ∈ lw_tbl := lw_at lw_m39 139 rfl
theorem in_X25 : ∀ w ∈ wsX250, w ∈ lw_all := lw_in wsX250 [1475, 1477, 1479, 1481, 1483, 1485] (by decide +kernel) (by decide +kernel)
