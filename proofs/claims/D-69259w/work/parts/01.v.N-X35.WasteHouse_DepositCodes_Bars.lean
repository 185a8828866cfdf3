/-! WasteHouse$DepositCodes$Bars -/
set_option maxRecDepth 100000
def RX35 : String := "WasteHouse$DepositCodes$Bars"
def TX35 : u_T := fun k => match k with
  | 0 => ("WasteHouse$DepositCodes$Bars", "widths", "[I", true)
  | 1 => ("WasteHouse$DepositCodes$Bars", "digits", "[B", true)
  | 2 => ("WasteHouse$DepositCodes$Bars", "last", "[B", false)
  | 3 => ("WasteHouse$DepositCodes$Bars", "isBack", "Z", false)
  | _ => ("WasteHouse$DepositCodes$Bars", "size", "I", false)
def tyX35 : Nat → FieldType := fun k => match k with
  | 0 => .array .int
  | 1 => .array .byte
  | 2 => .array .byte
  | 3 => .boolean
  | _ => .int
abbrev wsX350 : List Cond := u_ws RX35 TX35 5
theorem nmX35 : ∀ a, a < 5 → ∀ b, b < 5 → a ≠ b → (TX35 a).2.1 ≠ (TX35 b).2.1 := by decide +kernel
theorem tyX35_ok : ∀ k, k < 5 → parseFieldDescriptor (TX35 k).2.2.1 = some (tyX35 k) := by decide +kernel
abbrev cX35_init : ByteArray := prog_10_method_1_code
def yX35_init : MethodName := ⟨RX35, "<init>", "()V"⟩
def dkwX35_init_1 : List UInt8 := [181, 0, 19, 177]
abbrev dktX35_init_1 : List UInt8 := dkwX35_init_1 ++ []
def dkwX35_init_0 : List UInt8 := [42, 183, 0, 3, 42, 16, 64, 188, 10, 181, 0, 9, 42, 16, 16, 188, 8, 181, 0, 15, 42, 3, 188, 8]
abbrev dktX35_init_0 : List UInt8 := dkwX35_init_0 ++ dktX35_init_1
theorem dksX35_init_0 : cX35_init.data.toList.drop 0 = dktX35_init_0 := by decide +kernel
theorem dksX35_init_1 : cX35_init.data.toList.drop 24 = dktX35_init_1 := dk_seg dksX35_init_0 24 rfl rfl
theorem dX35_init_0 : decode cX35_init 0 = .ok (.aload_n 0, 1) := dk_42 (dk_at dksX35_init_0 0 rfl rfl)
theorem dX35_init_1 : decode cX35_init 1 = .ok (.invokespecial 3, 3) := dk_183 0 3 (dk_at dksX35_init_0 1 rfl rfl)
theorem dX35_init_4 : decode cX35_init 4 = .ok (.aload_n 0, 1) := dk_42 (dk_at dksX35_init_0 4 rfl rfl)
theorem dX35_init_5 : decode cX35_init 5 = .ok (.bipush 64, 2) := dk_16 64 (dk_at dksX35_init_0 5 rfl rfl)
theorem dX35_init_7 : decode cX35_init 7 = .ok (.newarray .int, 2) := dk_188_10 (dk_at dksX35_init_0 7 rfl rfl)
theorem dX35_init_9 : decode cX35_init 9 = .ok (.putfield 9, 3) := dk_181 0 9 (dk_at dksX35_init_0 9 rfl rfl)
theorem dX35_init_12 : decode cX35_init 12 = .ok (.aload_n 0, 1) := dk_42 (dk_at dksX35_init_0 12 rfl rfl)
theorem dX35_init_13 : decode cX35_init 13 = .ok (.bipush 16, 2) := dk_16 16 (dk_at dksX35_init_0 13 rfl rfl)
theorem dX35_init_15 : decode cX35_init 15 = .ok (.newarray .byte, 2) := dk_188_8 (dk_at dksX35_init_0 15 rfl rfl)
theorem dX35_init_17 : decode cX35_init 17 = .ok (.putfield 15, 3) := dk_181 0 15 (dk_at dksX35_init_0 17 rfl rfl)
theorem dX35_init_20 : decode cX35_init 20 = .ok (.aload_n 0, 1) := dk_42 (dk_at dksX35_init_0 20 rfl rfl)
theorem dX35_init_21 : decode cX35_init 21 = .ok (.iconst 0, 1) := dk_3 (dk_at dksX35_init_0 21 rfl rfl)
theorem dX35_init_22 : decode cX35_init 22 = .ok (.newarray .byte, 2) := dk_188_8 (dk_at dksX35_init_0 22 rfl rfl)
theorem dX35_init_24 : decode cX35_init 24 = .ok (.putfield 19, 3) := dk_181 0 19 (dk_at dksX35_init_1 0 rfl rfl)
theorem dX35_init_27 : decode cX35_init 27 = .ok (.return_, 1) := dk_177 (dk_at dksX35_init_1 3 rfl rfl)
abbrev cX35_set : ByteArray := prog_10_method_2_code
def yX35_set : MethodName := ⟨RX35, "set", "(II)V"⟩
def dkwX35_set_0 : List UInt8 := [42, 180, 0, 9, 27, 28, 79, 177]
abbrev dktX35_set_0 : List UInt8 := dkwX35_set_0 ++ []
theorem dksX35_set_0 : cX35_set.data.toList.drop 0 = dktX35_set_0 := by decide +kernel
theorem dX35_set_0 : decode cX35_set 0 = .ok (.aload_n 0, 1) := dk_42 (dk_at dksX35_set_0 0 rfl rfl)
theorem dX35_set_1 : decode cX35_set 1 = .ok (.getfield 9, 3) := dk_180 0 9 (dk_at dksX35_set_0 1 rfl rfl)
theorem dX35_set_4 : decode cX35_set 4 = .ok (.iload_n 1, 1) := dk_27 (dk_at dksX35_set_0 4 rfl rfl)
theorem dX35_set_5 : decode cX35_set 5 = .ok (.iload_n 2, 1) := dk_28 (dk_at dksX35_set_0 5 rfl rfl)
theorem dX35_set_6 : decode cX35_set 6 = .ok (.iastore, 1) := dk_79 (dk_at dksX35_set_0 6 rfl rfl)
theorem dX35_set_7 : decode cX35_set 7 = .ok (.return_, 1) := dk_177 (dk_at dksX35_set_0 7 rfl rfl)
abbrev cX35_read : ByteArray := prog_10_method_4_code
def yX35_read : MethodName := ⟨RX35, "read", "(Z)I"⟩
def dkwX35_read_4 : List UInt8 := [184, 0, 40, 28, 172]
abbrev dktX35_read_4 : List UInt8 := dkwX35_read_4 ++ []
def dkwX35_read_3 : List UInt8 := [184, 0, 34, 188, 8, 181, 0, 19, 42, 180, 0, 15, 3, 42, 180, 0, 19, 3, 42, 180, 0, 19, 190]
abbrev dktX35_read_3 : List UInt8 := dkwX35_read_3 ++ dktX35_read_4
def dkwX35_read_2 : List UInt8 := [160, 0, 19, 42, 27, 154, 0, 7, 4, 167, 0, 4, 3, 182, 0, 30, 167, 0, 4, 28, 61, 42, 3, 28]
abbrev dktX35_read_2 : List UInt8 := dkwX35_read_2 ++ dktX35_read_3
def dkwX35_read_1 : List UInt8 := [158, 0, 16, 42, 89, 180, 0, 26, 4, 96, 181, 0, 26, 167, 255, 225, 42, 27, 182, 0, 30, 61, 28, 2]
abbrev dktX35_read_1 : List UInt8 := dkwX35_read_1 ++ dktX35_read_2
def dkwX35_read_0 : List UInt8 := [42, 3, 181, 0, 26, 42, 180, 0, 26, 16, 64, 162, 0, 28, 42, 180, 0, 9, 42, 180, 0, 26, 46]
abbrev dktX35_read_0 : List UInt8 := dkwX35_read_0 ++ dktX35_read_1
theorem dksX35_read_0 : cX35_read.data.toList.drop 0 = dktX35_read_0 := by decide +kernel
theorem dksX35_read_1 : cX35_read.data.toList.drop 23 = dktX35_read_1 := dk_seg dksX35_read_0 23 rfl rfl
theorem dksX35_read_2 : cX35_read.data.toList.drop 47 = dktX35_read_2 := dk_seg dksX35_read_1 24 rfl rfl
theorem dksX35_read_3 : cX35_read.data.toList.drop 71 = dktX35_read_3 := dk_seg dksX35_read_2 24 rfl rfl
theorem dksX35_read_4 : cX35_read.data.toList.drop 94 = dktX35_read_4 := dk_seg dksX35_read_3 23 rfl rfl
theorem dX35_read_0 : decode cX35_read 0 = .ok (.aload_n 0, 1) := dk_42 (dk_at dksX35_read_0 0 rfl rfl)
theorem dX35_read_1 : decode cX35_read 1 = .ok (.iconst 0, 1) := dk_3 (dk_at dksX35_read_0 1 rfl rfl)
theorem dX35_read_2 : decode cX35_read 2 = .ok (.putfield 26, 3) := dk_181 0 26 (dk_at dksX35_read_0 2 rfl rfl)
theorem dX35_read_5 : decode cX35_read 5 = .ok (.aload_n 0, 1) := dk_42 (dk_at dksX35_read_0 5 rfl rfl)
theorem dX35_read_6 : decode cX35_read 6 = .ok (.getfield 26, 3) := dk_180 0 26 (dk_at dksX35_read_0 6 rfl rfl)
theorem dX35_read_9 : decode cX35_read 9 = .ok (.bipush 64, 2) := dk_16 64 (dk_at dksX35_read_0 9 rfl rfl)
theorem dX35_read_11 : decode cX35_read 11 = .ok (.if_icmp .ge 28, 3) := dk_162 0 28 (dk_at dksX35_read_0 11 rfl rfl)
theorem dX35_read_14 : decode cX35_read 14 = .ok (.aload_n 0, 1) := dk_42 (dk_at dksX35_read_0 14 rfl rfl)
theorem dX35_read_15 : decode cX35_read 15 = .ok (.getfield 9, 3) := dk_180 0 9 (dk_at dksX35_read_0 15 rfl rfl)
theorem dX35_read_18 : decode cX35_read 18 = .ok (.aload_n 0, 1) := dk_42 (dk_at dksX35_read_0 18 rfl rfl)
theorem dX35_read_19 : decode cX35_read 19 = .ok (.getfield 26, 3) := dk_180 0 26 (dk_at dksX35_read_0 19 rfl rfl)
theorem dX35_read_22 : decode cX35_read 22 = .ok (.iaload, 1) := dk_46 (dk_at dksX35_read_0 22 rfl rfl)
theorem dX35_read_23 : decode cX35_read 23 = .ok (.ifCond .le 16, 3) := dk_158 0 16 (dk_at dksX35_read_1 0 rfl rfl)
theorem dX35_read_26 : decode cX35_read 26 = .ok (.aload_n 0, 1) := dk_42 (dk_at dksX35_read_1 3 rfl rfl)
theorem dX35_read_27 : decode cX35_read 27 = .ok (.dup, 1) := dk_89 (dk_at dksX35_read_1 4 rfl rfl)
theorem dX35_read_28 : decode cX35_read 28 = .ok (.getfield 26, 3) := dk_180 0 26 (dk_at dksX35_read_1 5 rfl rfl)
theorem dX35_read_31 : decode cX35_read 31 = .ok (.iconst 1, 1) := dk_4 (dk_at dksX35_read_1 8 rfl rfl)
theorem dX35_read_32 : decode cX35_read 32 = .ok (.iadd, 1) := dk_96 (dk_at dksX35_read_1 9 rfl rfl)
theorem dX35_read_33 : decode cX35_read 33 = .ok (.putfield 26, 3) := dk_181 0 26 (dk_at dksX35_read_1 10 rfl rfl)
theorem dX35_read_36 : decode cX35_read 36 = .ok (.goto (-31), 3) := dk_167 255 225 (dk_at dksX35_read_1 13 rfl rfl)
theorem dX35_read_39 : decode cX35_read 39 = .ok (.aload_n 0, 1) := dk_42 (dk_at dksX35_read_1 16 rfl rfl)
theorem dX35_read_40 : decode cX35_read 40 = .ok (.iload_n 1, 1) := dk_27 (dk_at dksX35_read_1 17 rfl rfl)
theorem dX35_read_41 : decode cX35_read 41 = .ok (.invokevirtual 30, 3) := dk_182 0 30 (dk_at dksX35_read_1 18 rfl rfl)
theorem dX35_read_44 : decode cX35_read 44 = .ok (.istore_n 2, 1) := dk_61 (dk_at dksX35_read_1 21 rfl rfl)
theorem dX35_read_45 : decode cX35_read 45 = .ok (.iload_n 2, 1) := dk_28 (dk_at dksX35_read_1 22 rfl rfl)
theorem dX35_read_46 : decode cX35_read 46 = .ok (.iconst (-1), 1) := dk_2 (dk_at dksX35_read_1 23 rfl rfl)
theorem dX35_read_47 : decode cX35_read 47 = .ok (.if_icmp .ne 19, 3) := dk_160 0 19 (dk_at dksX35_read_2 0 rfl rfl)
theorem dX35_read_50 : decode cX35_read 50 = .ok (.aload_n 0, 1) := dk_42 (dk_at dksX35_read_2 3 rfl rfl)
theorem dX35_read_51 : decode cX35_read 51 = .ok (.iload_n 1, 1) := dk_27 (dk_at dksX35_read_2 4 rfl rfl)
theorem dX35_read_52 : decode cX35_read 52 = .ok (.ifCond .ne 7, 3) := dk_154 0 7 (dk_at dksX35_read_2 5 rfl rfl)
theorem dX35_read_55 : decode cX35_read 55 = .ok (.iconst 1, 1) := dk_4 (dk_at dksX35_read_2 8 rfl rfl)
theorem dX35_read_56 : decode cX35_read 56 = .ok (.goto 4, 3) := dk_167 0 4 (dk_at dksX35_read_2 9 rfl rfl)
theorem dX35_read_59 : decode cX35_read 59 = .ok (.iconst 0, 1) := dk_3 (dk_at dksX35_read_2 12 rfl rfl)
theorem dX35_read_60 : decode cX35_read 60 = .ok (.invokevirtual 30, 3) := dk_182 0 30 (dk_at dksX35_read_2 13 rfl rfl)
theorem dX35_read_63 : decode cX35_read 63 = .ok (.goto 4, 3) := dk_167 0 4 (dk_at dksX35_read_2 16 rfl rfl)
theorem dX35_read_66 : decode cX35_read 66 = .ok (.iload_n 2, 1) := dk_28 (dk_at dksX35_read_2 19 rfl rfl)
theorem dX35_read_67 : decode cX35_read 67 = .ok (.istore_n 2, 1) := dk_61 (dk_at dksX35_read_2 20 rfl rfl)
theorem dX35_read_68 : decode cX35_read 68 = .ok (.aload_n 0, 1) := dk_42 (dk_at dksX35_read_2 21 rfl rfl)
theorem dX35_read_69 : decode cX35_read 69 = .ok (.iconst 0, 1) := dk_3 (dk_at dksX35_read_2 22 rfl rfl)
theorem dX35_read_70 : decode cX35_read 70 = .ok (.iload_n 2, 1) := dk_28 (dk_at dksX35_read_2 23 rfl rfl)
theorem dX35_read_71 : decode cX35_read 71 = .ok (.invokestatic 34, 3) := dk_184 0 34 (dk_at dksX35_read_3 0 rfl rfl)
theorem dX35_read_74 : decode cX35_read 74 = .ok (.newarray .byte, 2) := dk_188_8 (dk_at dksX35_read_3 3 rfl rfl)
theorem dX35_read_76 : decode cX35_read 76 = .ok (.putfield 19, 3) := dk_181 0 19 (dk_at dksX35_read_3 5 rfl rfl)
theorem dX35_read_79 : decode cX35_read 79 = .ok (.aload_n 0, 1) := dk_42 (dk_at dksX35_read_3 8 rfl rfl)
theorem dX35_read_80 : decode cX35_read 80 = .ok (.getfield 15, 3) := dk_180 0 15 (dk_at dksX35_read_3 9 rfl rfl)
theorem dX35_read_83 : decode cX35_read 83 = .ok (.iconst 0, 1) := dk_3 (dk_at dksX35_read_3 12 rfl rfl)
theorem dX35_read_84 : decode cX35_read 84 = .ok (.aload_n 0, 1) := dk_42 (dk_at dksX35_read_3 13 rfl rfl)
theorem dX35_read_85 : decode cX35_read 85 = .ok (.getfield 19, 3) := dk_180 0 19 (dk_at dksX35_read_3 14 rfl rfl)
theorem dX35_read_88 : decode cX35_read 88 = .ok (.iconst 0, 1) := dk_3 (dk_at dksX35_read_3 17 rfl rfl)
theorem dX35_read_89 : decode cX35_read 89 = .ok (.aload_n 0, 1) := dk_42 (dk_at dksX35_read_3 18 rfl rfl)
theorem dX35_read_90 : decode cX35_read 90 = .ok (.getfield 19, 3) := dk_180 0 19 (dk_at dksX35_read_3 19 rfl rfl)
theorem dX35_read_93 : decode cX35_read 93 = .ok (.arraylength, 1) := dk_190 (dk_at dksX35_read_3 22 rfl rfl)
theorem dX35_read_94 : decode cX35_read 94 = .ok (.invokestatic 40, 3) := dk_184 0 40 (dk_at dksX35_read_4 0 rfl rfl)
theorem dX35_read_97 : decode cX35_read 97 = .ok (.iload_n 2, 1) := dk_28 (dk_at dksX35_read_4 3 rfl rfl)
theorem dX35_read_98 : decode cX35_read 98 = .ok (.ireturn, 1) := dk_172 (dk_at dksX35_read_4 4 rfl rfl)
abbrev cX35_one : ByteArray := prog_10_method_5_code
def yX35_one : MethodName := ⟨RX35, "one", "(Z)I"⟩
def dkwX35_one_4 : List UInt8 := [29, 172]
abbrev dktX35_one_4 : List UInt8 := dkwX35_one_4 ++ []
def dkwX35_one_3 : List UInt8 := [21, 5, 2, 160, 0, 5, 2, 172, 42, 180, 0, 15, 21, 4, 21, 5, 145, 84, 132, 4, 1, 167, 255, 217]
abbrev dktX35_one_3 : List UInt8 := dkwX35_one_3 ++ dktX35_one_4
def dkwX35_one_2 : List UInt8 := [7, 108, 62, 3, 54, 4, 21, 4, 29, 162, 0, 39, 42, 6, 7, 21, 4, 104, 96, 182, 0, 50, 54, 5]
abbrev dktX35_one_2 : List UInt8 := dkwX35_one_2 ++ dktX35_one_3
def dkwX35_one_1 : List UInt8 := [42, 3, 182, 0, 46, 153, 0, 16, 42, 42, 180, 0, 26, 6, 100, 182, 0, 46, 154, 0, 5, 2, 172, 28]
abbrev dktX35_one_1 : List UInt8 := dkwX35_one_1 ++ dktX35_one_2
def dkwX35_one_0 : List UInt8 := [42, 27, 181, 0, 22, 42, 180, 0, 26, 16, 6, 100, 61, 28, 7, 161, 0, 30, 28, 7, 112, 154, 0, 24]
abbrev dktX35_one_0 : List UInt8 := dkwX35_one_0 ++ dktX35_one_1
theorem dksX35_one_0 : cX35_one.data.toList.drop 0 = dktX35_one_0 := by decide +kernel
theorem dksX35_one_1 : cX35_one.data.toList.drop 24 = dktX35_one_1 := dk_seg dksX35_one_0 24 rfl rfl
theorem dksX35_one_2 : cX35_one.data.toList.drop 48 = dktX35_one_2 := dk_seg dksX35_one_1 24 rfl rfl
theorem dksX35_one_3 : cX35_one.data.toList.drop 72 = dktX35_one_3 := dk_seg dksX35_one_2 24 rfl rfl
theorem dksX35_one_4 : cX35_one.data.toList.drop 96 = dktX35_one_4 := dk_seg dksX35_one_3 24 rfl rfl
theorem dX35_one_0 : decode cX35_one 0 = .ok (.aload_n 0, 1) := dk_42 (dk_at dksX35_one_0 0 rfl rfl)
theorem dX35_one_1 : decode cX35_one 1 = .ok (.iload_n 1, 1) := dk_27 (dk_at dksX35_one_0 1 rfl rfl)
theorem dX35_one_2 : decode cX35_one 2 = .ok (.putfield 22, 3) := dk_181 0 22 (dk_at dksX35_one_0 2 rfl rfl)
theorem dX35_one_5 : decode cX35_one 5 = .ok (.aload_n 0, 1) := dk_42 (dk_at dksX35_one_0 5 rfl rfl)
theorem dX35_one_6 : decode cX35_one 6 = .ok (.getfield 26, 3) := dk_180 0 26 (dk_at dksX35_one_0 6 rfl rfl)
theorem dX35_one_9 : decode cX35_one 9 = .ok (.bipush 6, 2) := dk_16 6 (dk_at dksX35_one_0 9 rfl rfl)
theorem dX35_one_11 : decode cX35_one 11 = .ok (.isub, 1) := dk_100 (dk_at dksX35_one_0 11 rfl rfl)
theorem dX35_one_12 : decode cX35_one 12 = .ok (.istore_n 2, 1) := dk_61 (dk_at dksX35_one_0 12 rfl rfl)
theorem dX35_one_13 : decode cX35_one 13 = .ok (.iload_n 2, 1) := dk_28 (dk_at dksX35_one_0 13 rfl rfl)
theorem dX35_one_14 : decode cX35_one 14 = .ok (.iconst 4, 1) := dk_7 (dk_at dksX35_one_0 14 rfl rfl)
theorem dX35_one_15 : decode cX35_one 15 = .ok (.if_icmp .lt 30, 3) := dk_161 0 30 (dk_at dksX35_one_0 15 rfl rfl)
theorem dX35_one_18 : decode cX35_one 18 = .ok (.iload_n 2, 1) := dk_28 (dk_at dksX35_one_0 18 rfl rfl)
theorem dX35_one_19 : decode cX35_one 19 = .ok (.iconst 4, 1) := dk_7 (dk_at dksX35_one_0 19 rfl rfl)
theorem dX35_one_20 : decode cX35_one 20 = .ok (.irem, 1) := dk_112 (dk_at dksX35_one_0 20 rfl rfl)
theorem dX35_one_21 : decode cX35_one 21 = .ok (.ifCond .ne 24, 3) := dk_154 0 24 (dk_at dksX35_one_0 21 rfl rfl)
theorem dX35_one_24 : decode cX35_one 24 = .ok (.aload_n 0, 1) := dk_42 (dk_at dksX35_one_1 0 rfl rfl)
theorem dX35_one_25 : decode cX35_one 25 = .ok (.iconst 0, 1) := dk_3 (dk_at dksX35_one_1 1 rfl rfl)
theorem dX35_one_26 : decode cX35_one 26 = .ok (.invokevirtual 46, 3) := dk_182 0 46 (dk_at dksX35_one_1 2 rfl rfl)
theorem dX35_one_29 : decode cX35_one 29 = .ok (.ifCond .eq 16, 3) := dk_153 0 16 (dk_at dksX35_one_1 5 rfl rfl)
theorem dX35_one_32 : decode cX35_one 32 = .ok (.aload_n 0, 1) := dk_42 (dk_at dksX35_one_1 8 rfl rfl)
theorem dX35_one_33 : decode cX35_one 33 = .ok (.aload_n 0, 1) := dk_42 (dk_at dksX35_one_1 9 rfl rfl)
theorem dX35_one_34 : decode cX35_one 34 = .ok (.getfield 26, 3) := dk_180 0 26 (dk_at dksX35_one_1 10 rfl rfl)
theorem dX35_one_37 : decode cX35_one 37 = .ok (.iconst 3, 1) := dk_6 (dk_at dksX35_one_1 13 rfl rfl)
theorem dX35_one_38 : decode cX35_one 38 = .ok (.isub, 1) := dk_100 (dk_at dksX35_one_1 14 rfl rfl)
theorem dX35_one_39 : decode cX35_one 39 = .ok (.invokevirtual 46, 3) := dk_182 0 46 (dk_at dksX35_one_1 15 rfl rfl)
theorem dX35_one_42 : decode cX35_one 42 = .ok (.ifCond .ne 5, 3) := dk_154 0 5 (dk_at dksX35_one_1 18 rfl rfl)
theorem dX35_one_45 : decode cX35_one 45 = .ok (.iconst (-1), 1) := dk_2 (dk_at dksX35_one_1 21 rfl rfl)
theorem dX35_one_46 : decode cX35_one 46 = .ok (.ireturn, 1) := dk_172 (dk_at dksX35_one_1 22 rfl rfl)
theorem dX35_one_47 : decode cX35_one 47 = .ok (.iload_n 2, 1) := dk_28 (dk_at dksX35_one_1 23 rfl rfl)
theorem dX35_one_48 : decode cX35_one 48 = .ok (.iconst 4, 1) := dk_7 (dk_at dksX35_one_2 0 rfl rfl)
theorem dX35_one_49 : decode cX35_one 49 = .ok (.idiv, 1) := dk_108 (dk_at dksX35_one_2 1 rfl rfl)
theorem dX35_one_50 : decode cX35_one 50 = .ok (.istore_n 3, 1) := dk_62 (dk_at dksX35_one_2 2 rfl rfl)
theorem dX35_one_51 : decode cX35_one 51 = .ok (.iconst 0, 1) := dk_3 (dk_at dksX35_one_2 3 rfl rfl)
theorem dX35_one_52 : decode cX35_one 52 = .ok (.istore 4, 2) := dk_54 4 (dk_at dksX35_one_2 4 rfl rfl)
theorem dX35_one_54 : decode cX35_one 54 = .ok (.iload 4, 2) := dk_21 4 (dk_at dksX35_one_2 6 rfl rfl)
theorem dX35_one_56 : decode cX35_one 56 = .ok (.iload_n 3, 1) := dk_29 (dk_at dksX35_one_2 8 rfl rfl)
theorem dX35_one_57 : decode cX35_one 57 = .ok (.if_icmp .ge 39, 3) := dk_162 0 39 (dk_at dksX35_one_2 9 rfl rfl)
theorem dX35_one_60 : decode cX35_one 60 = .ok (.aload_n 0, 1) := dk_42 (dk_at dksX35_one_2 12 rfl rfl)
theorem dX35_one_61 : decode cX35_one 61 = .ok (.iconst 3, 1) := dk_6 (dk_at dksX35_one_2 13 rfl rfl)
theorem dX35_one_62 : decode cX35_one 62 = .ok (.iconst 4, 1) := dk_7 (dk_at dksX35_one_2 14 rfl rfl)
theorem dX35_one_63 : decode cX35_one 63 = .ok (.iload 4, 2) := dk_21 4 (dk_at dksX35_one_2 15 rfl rfl)
theorem dX35_one_65 : decode cX35_one 65 = .ok (.imul, 1) := dk_104 (dk_at dksX35_one_2 17 rfl rfl)
theorem dX35_one_66 : decode cX35_one 66 = .ok (.iadd, 1) := dk_96 (dk_at dksX35_one_2 18 rfl rfl)
theorem dX35_one_67 : decode cX35_one 67 = .ok (.invokevirtual 50, 3) := dk_182 0 50 (dk_at dksX35_one_2 19 rfl rfl)
theorem dX35_one_70 : decode cX35_one 70 = .ok (.istore 5, 2) := dk_54 5 (dk_at dksX35_one_2 22 rfl rfl)
theorem dX35_one_72 : decode cX35_one 72 = .ok (.iload 5, 2) := dk_21 5 (dk_at dksX35_one_3 0 rfl rfl)
theorem dX35_one_74 : decode cX35_one 74 = .ok (.iconst (-1), 1) := dk_2 (dk_at dksX35_one_3 2 rfl rfl)
theorem dX35_one_75 : decode cX35_one 75 = .ok (.if_icmp .ne 5, 3) := dk_160 0 5 (dk_at dksX35_one_3 3 rfl rfl)
theorem dX35_one_78 : decode cX35_one 78 = .ok (.iconst (-1), 1) := dk_2 (dk_at dksX35_one_3 6 rfl rfl)
theorem dX35_one_79 : decode cX35_one 79 = .ok (.ireturn, 1) := dk_172 (dk_at dksX35_one_3 7 rfl rfl)
theorem dX35_one_80 : decode cX35_one 80 = .ok (.aload_n 0, 1) := dk_42 (dk_at dksX35_one_3 8 rfl rfl)
theorem dX35_one_81 : decode cX35_one 81 = .ok (.getfield 15, 3) := dk_180 0 15 (dk_at dksX35_one_3 9 rfl rfl)
theorem dX35_one_84 : decode cX35_one 84 = .ok (.iload 4, 2) := dk_21 4 (dk_at dksX35_one_3 12 rfl rfl)
theorem dX35_one_86 : decode cX35_one 86 = .ok (.iload 5, 2) := dk_21 5 (dk_at dksX35_one_3 14 rfl rfl)
theorem dX35_one_88 : decode cX35_one 88 = .ok (.i2b, 1) := dk_145 (dk_at dksX35_one_3 16 rfl rfl)
theorem dX35_one_89 : decode cX35_one 89 = .ok (.bastore, 1) := dk_84 (dk_at dksX35_one_3 17 rfl rfl)
theorem dX35_one_90 : decode cX35_one 90 = .ok (.iinc 4 1, 3) := dk_132 4 1 (dk_at dksX35_one_3 18 rfl rfl)
theorem dX35_one_93 : decode cX35_one 93 = .ok (.goto (-39), 3) := dk_167 255 217 (dk_at dksX35_one_3 21 rfl rfl)
theorem dX35_one_96 : decode cX35_one 96 = .ok (.iload_n 3, 1) := dk_29 (dk_at dksX35_one_4 0 rfl rfl)
theorem dX35_one_97 : decode cX35_one 97 = .ok (.ireturn, 1) := dk_172 (dk_at dksX35_one_4 1 rfl rfl)
abbrev cX35_isGuard : ByteArray := prog_10_method_6_code
def yX35_isGuard : MethodName := ⟨RX35, "isGuard", "(I)Z"⟩
def dkwX35_isGuard_1 : List UInt8 := [182, 0, 54, 160, 0, 7, 4, 167, 0, 4, 3, 172]
abbrev dktX35_isGuard_1 : List UInt8 := dkwX35_isGuard_1 ++ []
def dkwX35_isGuard_0 : List UInt8 := [42, 27, 182, 0, 54, 42, 27, 4, 96, 182, 0, 54, 160, 0, 22, 42, 27, 182, 0, 54, 42, 27, 5, 96]
abbrev dktX35_isGuard_0 : List UInt8 := dkwX35_isGuard_0 ++ dktX35_isGuard_1
theorem dksX35_isGuard_0 : cX35_isGuard.data.toList.drop 0 = dktX35_isGuard_0 := by decide +kernel
theorem dksX35_isGuard_1 : cX35_isGuard.data.toList.drop 24 = dktX35_isGuard_1 := dk_seg dksX35_isGuard_0 24 rfl rfl
theorem dX35_isGuard_0 : decode cX35_isGuard 0 = .ok (.aload_n 0, 1) := dk_42 (dk_at dksX35_isGuard_0 0 rfl rfl)
theorem dX35_isGuard_1 : decode cX35_isGuard 1 = .ok (.iload_n 1, 1) := dk_27 (dk_at dksX35_isGuard_0 1 rfl rfl)
theorem dX35_isGuard_2 : decode cX35_isGuard 2 = .ok (.invokevirtual 54, 3) := dk_182 0 54 (dk_at dksX35_isGuard_0 2 rfl rfl)
theorem dX35_isGuard_5 : decode cX35_isGuard 5 = .ok (.aload_n 0, 1) := dk_42 (dk_at dksX35_isGuard_0 5 rfl rfl)
theorem dX35_isGuard_6 : decode cX35_isGuard 6 = .ok (.iload_n 1, 1) := dk_27 (dk_at dksX35_isGuard_0 6 rfl rfl)
theorem dX35_isGuard_7 : decode cX35_isGuard 7 = .ok (.iconst 1, 1) := dk_4 (dk_at dksX35_isGuard_0 7 rfl rfl)
theorem dX35_isGuard_8 : decode cX35_isGuard 8 = .ok (.iadd, 1) := dk_96 (dk_at dksX35_isGuard_0 8 rfl rfl)
theorem dX35_isGuard_9 : decode cX35_isGuard 9 = .ok (.invokevirtual 54, 3) := dk_182 0 54 (dk_at dksX35_isGuard_0 9 rfl rfl)
theorem dX35_isGuard_12 : decode cX35_isGuard 12 = .ok (.if_icmp .ne 22, 3) := dk_160 0 22 (dk_at dksX35_isGuard_0 12 rfl rfl)
theorem dX35_isGuard_15 : decode cX35_isGuard 15 = .ok (.aload_n 0, 1) := dk_42 (dk_at dksX35_isGuard_0 15 rfl rfl)
theorem dX35_isGuard_16 : decode cX35_isGuard 16 = .ok (.iload_n 1, 1) := dk_27 (dk_at dksX35_isGuard_0 16 rfl rfl)
theorem dX35_isGuard_17 : decode cX35_isGuard 17 = .ok (.invokevirtual 54, 3) := dk_182 0 54 (dk_at dksX35_isGuard_0 17 rfl rfl)
theorem dX35_isGuard_20 : decode cX35_isGuard 20 = .ok (.aload_n 0, 1) := dk_42 (dk_at dksX35_isGuard_0 20 rfl rfl)
theorem dX35_isGuard_21 : decode cX35_isGuard 21 = .ok (.iload_n 1, 1) := dk_27 (dk_at dksX35_isGuard_0 21 rfl rfl)
theorem dX35_isGuard_22 : decode cX35_isGuard 22 = .ok (.iconst 2, 1) := dk_5 (dk_at dksX35_isGuard_0 22 rfl rfl)
theorem dX35_isGuard_23 : decode cX35_isGuard 23 = .ok (.iadd, 1) := dk_96 (dk_at dksX35_isGuard_0 23 rfl rfl)
theorem dX35_isGuard_24 : decode cX35_isGuard 24 = .ok (.invokevirtual 54, 3) := dk_182 0 54 (dk_at dksX35_isGuard_1 0 rfl rfl)
theorem dX35_isGuard_27 : decode cX35_isGuard 27 = .ok (.if_icmp .ne 7, 3) := dk_160 0 7 (dk_at dksX35_isGuard_1 3 rfl rfl)
theorem dX35_isGuard_30 : decode cX35_isGuard 30 = .ok (.iconst 1, 1) := dk_4 (dk_at dksX35_isGuard_1 6 rfl rfl)
theorem dX35_isGuard_31 : decode cX35_isGuard 31 = .ok (.goto 4, 3) := dk_167 0 4 (dk_at dksX35_isGuard_1 7 rfl rfl)
theorem dX35_isGuard_34 : decode cX35_isGuard 34 = .ok (.iconst 0, 1) := dk_3 (dk_at dksX35_isGuard_1 10 rfl rfl)
theorem dX35_isGuard_35 : decode cX35_isGuard 35 = .ok (.ireturn, 1) := dk_172 (dk_at dksX35_isGuard_1 11 rfl rfl)
abbrev cX35_at : ByteArray := prog_10_method_3_code
def yX35_at : MethodName := ⟨RX35, "at", "(I)I"⟩
def dkwX35_at_1 : List UInt8 := [172]
abbrev dktX35_at_1 : List UInt8 := dkwX35_at_1 ++ []
def dkwX35_at_0 : List UInt8 := [42, 180, 0, 9, 42, 180, 0, 22, 153, 0, 14, 42, 180, 0, 26, 4, 100, 27, 100, 167, 0, 4, 27, 46]
abbrev dktX35_at_0 : List UInt8 := dkwX35_at_0 ++ dktX35_at_1
theorem dksX35_at_0 : cX35_at.data.toList.drop 0 = dktX35_at_0 := by decide +kernel
theorem dksX35_at_1 : cX35_at.data.toList.drop 24 = dktX35_at_1 := dk_seg dksX35_at_0 24 rfl rfl
theorem dX35_at_0 : decode cX35_at 0 = .ok (.aload_n 0, 1) := dk_42 (dk_at dksX35_at_0 0 rfl rfl)
theorem dX35_at_1 : decode cX35_at 1 = .ok (.getfield 9, 3) := dk_180 0 9 (dk_at dksX35_at_0 1 rfl rfl)
theorem dX35_at_4 : decode cX35_at 4 = .ok (.aload_n 0, 1) := dk_42 (dk_at dksX35_at_0 4 rfl rfl)
theorem dX35_at_5 : decode cX35_at 5 = .ok (.getfield 22, 3) := dk_180 0 22 (dk_at dksX35_at_0 5 rfl rfl)
theorem dX35_at_8 : decode cX35_at 8 = .ok (.ifCond .eq 14, 3) := dk_153 0 14 (dk_at dksX35_at_0 8 rfl rfl)
theorem dX35_at_11 : decode cX35_at 11 = .ok (.aload_n 0, 1) := dk_42 (dk_at dksX35_at_0 11 rfl rfl)
theorem dX35_at_12 : decode cX35_at 12 = .ok (.getfield 26, 3) := dk_180 0 26 (dk_at dksX35_at_0 12 rfl rfl)
theorem dX35_at_15 : decode cX35_at 15 = .ok (.iconst 1, 1) := dk_4 (dk_at dksX35_at_0 15 rfl rfl)
theorem dX35_at_16 : decode cX35_at 16 = .ok (.isub, 1) := dk_100 (dk_at dksX35_at_0 16 rfl rfl)
theorem dX35_at_17 : decode cX35_at 17 = .ok (.iload_n 1, 1) := dk_27 (dk_at dksX35_at_0 17 rfl rfl)
theorem dX35_at_18 : decode cX35_at 18 = .ok (.isub, 1) := dk_100 (dk_at dksX35_at_0 18 rfl rfl)
theorem dX35_at_19 : decode cX35_at 19 = .ok (.goto 4, 3) := dk_167 0 4 (dk_at dksX35_at_0 19 rfl rfl)
theorem dX35_at_22 : decode cX35_at 22 = .ok (.iload_n 1, 1) := dk_27 (dk_at dksX35_at_0 22 rfl rfl)
theorem dX35_at_23 : decode cX35_at 23 = .ok (.iaload, 1) := dk_46 (dk_at dksX35_at_0 23 rfl rfl)
theorem dX35_at_24 : decode cX35_at 24 = .ok (.ireturn, 1) := dk_172 (dk_at dksX35_at_1 0 rfl rfl)
abbrev cX35_digit : ByteArray := prog_10_method_7_code
def yX35_digit : MethodName := ⟨RX35, "digit", "(I)I"⟩
def dkwX35_digit_4 : List UInt8 := [46, 29, 159, 0, 9, 132, 4, 255, 167, 255, 238, 21, 4, 172]
abbrev dktX35_digit_4 : List UInt8 := dkwX35_digit_4 ++ []
def dkwX35_digit_3 : List UInt8 := [132, 4, 1, 167, 255, 215, 178, 0, 57, 190, 4, 100, 54, 4, 21, 4, 155, 0, 19, 178, 0, 57, 21, 4]
abbrev dktX35_digit_3 : List UInt8 := dkwX35_digit_3 ++ dktX35_digit_4
def dkwX35_digit_2 : List UInt8 := [104, 54, 5, 21, 5, 28, 112, 153, 0, 5, 2, 172, 16, 10, 29, 104, 21, 5, 28, 108, 96, 62]
abbrev dktX35_digit_2 : List UInt8 := dkwX35_digit_2 ++ dktX35_digit_3
def dkwX35_digit_1 : List UInt8 := [167, 255, 238, 3, 62, 3, 54, 4, 21, 4, 7, 162, 0, 41, 16, 7, 42, 27, 21, 4, 96, 182, 0, 54]
abbrev dktX35_digit_1 : List UInt8 := dkwX35_digit_1 ++ dktX35_digit_2
def dkwX35_digit_0 : List UInt8 := [3, 61, 3, 62, 29, 7, 162, 0, 19, 28, 42, 27, 29, 96, 182, 0, 54, 96, 61, 132, 3, 1]
abbrev dktX35_digit_0 : List UInt8 := dkwX35_digit_0 ++ dktX35_digit_1
theorem dksX35_digit_0 : cX35_digit.data.toList.drop 0 = dktX35_digit_0 := by decide +kernel
theorem dksX35_digit_1 : cX35_digit.data.toList.drop 22 = dktX35_digit_1 := dk_seg dksX35_digit_0 22 rfl rfl
theorem dksX35_digit_2 : cX35_digit.data.toList.drop 46 = dktX35_digit_2 := dk_seg dksX35_digit_1 24 rfl rfl
theorem dksX35_digit_3 : cX35_digit.data.toList.drop 68 = dktX35_digit_3 := dk_seg dksX35_digit_2 22 rfl rfl
theorem dksX35_digit_4 : cX35_digit.data.toList.drop 92 = dktX35_digit_4 := dk_seg dksX35_digit_3 24 rfl rfl
theorem dX35_digit_0 : decode cX35_digit 0 = .ok (.iconst 0, 1) := dk_3 (dk_at dksX35_digit_0 0 rfl rfl)
theorem dX35_digit_1 : decode cX35_digit 1 = .ok (.istore_n 2, 1) := dk_61 (dk_at dksX35_digit_0 1 rfl rfl)
theorem dX35_digit_2 : decode cX35_digit 2 = .ok (.iconst 0, 1) := dk_3 (dk_at dksX35_digit_0 2 rfl rfl)
theorem dX35_digit_3 : decode cX35_digit 3 = .ok (.istore_n 3, 1) := dk_62 (dk_at dksX35_digit_0 3 rfl rfl)
theorem dX35_digit_4 : decode cX35_digit 4 = .ok (.iload_n 3, 1) := dk_29 (dk_at dksX35_digit_0 4 rfl rfl)
theorem dX35_digit_5 : decode cX35_digit 5 = .ok (.iconst 4, 1) := dk_7 (dk_at dksX35_digit_0 5 rfl rfl)
theorem dX35_digit_6 : decode cX35_digit 6 = .ok (.if_icmp .ge 19, 3) := dk_162 0 19 (dk_at dksX35_digit_0 6 rfl rfl)
theorem dX35_digit_9 : decode cX35_digit 9 = .ok (.iload_n 2, 1) := dk_28 (dk_at dksX35_digit_0 9 rfl rfl)
theorem dX35_digit_10 : decode cX35_digit 10 = .ok (.aload_n 0, 1) := dk_42 (dk_at dksX35_digit_0 10 rfl rfl)
theorem dX35_digit_11 : decode cX35_digit 11 = .ok (.iload_n 1, 1) := dk_27 (dk_at dksX35_digit_0 11 rfl rfl)
theorem dX35_digit_12 : decode cX35_digit 12 = .ok (.iload_n 3, 1) := dk_29 (dk_at dksX35_digit_0 12 rfl rfl)
theorem dX35_digit_13 : decode cX35_digit 13 = .ok (.iadd, 1) := dk_96 (dk_at dksX35_digit_0 13 rfl rfl)
theorem dX35_digit_14 : decode cX35_digit 14 = .ok (.invokevirtual 54, 3) := dk_182 0 54 (dk_at dksX35_digit_0 14 rfl rfl)
theorem dX35_digit_17 : decode cX35_digit 17 = .ok (.iadd, 1) := dk_96 (dk_at dksX35_digit_0 17 rfl rfl)
theorem dX35_digit_18 : decode cX35_digit 18 = .ok (.istore_n 2, 1) := dk_61 (dk_at dksX35_digit_0 18 rfl rfl)
theorem dX35_digit_19 : decode cX35_digit 19 = .ok (.iinc 3 1, 3) := dk_132 3 1 (dk_at dksX35_digit_0 19 rfl rfl)
theorem dX35_digit_22 : decode cX35_digit 22 = .ok (.goto (-18), 3) := dk_167 255 238 (dk_at dksX35_digit_1 0 rfl rfl)
theorem dX35_digit_25 : decode cX35_digit 25 = .ok (.iconst 0, 1) := dk_3 (dk_at dksX35_digit_1 3 rfl rfl)
theorem dX35_digit_26 : decode cX35_digit 26 = .ok (.istore_n 3, 1) := dk_62 (dk_at dksX35_digit_1 4 rfl rfl)
theorem dX35_digit_27 : decode cX35_digit 27 = .ok (.iconst 0, 1) := dk_3 (dk_at dksX35_digit_1 5 rfl rfl)
theorem dX35_digit_28 : decode cX35_digit 28 = .ok (.istore 4, 2) := dk_54 4 (dk_at dksX35_digit_1 6 rfl rfl)
theorem dX35_digit_30 : decode cX35_digit 30 = .ok (.iload 4, 2) := dk_21 4 (dk_at dksX35_digit_1 8 rfl rfl)
theorem dX35_digit_32 : decode cX35_digit 32 = .ok (.iconst 4, 1) := dk_7 (dk_at dksX35_digit_1 10 rfl rfl)
theorem dX35_digit_33 : decode cX35_digit 33 = .ok (.if_icmp .ge 41, 3) := dk_162 0 41 (dk_at dksX35_digit_1 11 rfl rfl)
theorem dX35_digit_36 : decode cX35_digit 36 = .ok (.bipush 7, 2) := dk_16 7 (dk_at dksX35_digit_1 14 rfl rfl)
theorem dX35_digit_38 : decode cX35_digit 38 = .ok (.aload_n 0, 1) := dk_42 (dk_at dksX35_digit_1 16 rfl rfl)
theorem dX35_digit_39 : decode cX35_digit 39 = .ok (.iload_n 1, 1) := dk_27 (dk_at dksX35_digit_1 17 rfl rfl)
theorem dX35_digit_40 : decode cX35_digit 40 = .ok (.iload 4, 2) := dk_21 4 (dk_at dksX35_digit_1 18 rfl rfl)
theorem dX35_digit_42 : decode cX35_digit 42 = .ok (.iadd, 1) := dk_96 (dk_at dksX35_digit_1 20 rfl rfl)
theorem dX35_digit_43 : decode cX35_digit 43 = .ok (.invokevirtual 54, 3) := dk_182 0 54 (dk_at dksX35_digit_1 21 rfl rfl)
theorem dX35_digit_46 : decode cX35_digit 46 = .ok (.imul, 1) := dk_104 (dk_at dksX35_digit_2 0 rfl rfl)
theorem dX35_digit_47 : decode cX35_digit 47 = .ok (.istore 5, 2) := dk_54 5 (dk_at dksX35_digit_2 1 rfl rfl)
theorem dX35_digit_49 : decode cX35_digit 49 = .ok (.iload 5, 2) := dk_21 5 (dk_at dksX35_digit_2 3 rfl rfl)
theorem dX35_digit_51 : decode cX35_digit 51 = .ok (.iload_n 2, 1) := dk_28 (dk_at dksX35_digit_2 5 rfl rfl)
theorem dX35_digit_52 : decode cX35_digit 52 = .ok (.irem, 1) := dk_112 (dk_at dksX35_digit_2 6 rfl rfl)
theorem dX35_digit_53 : decode cX35_digit 53 = .ok (.ifCond .eq 5, 3) := dk_153 0 5 (dk_at dksX35_digit_2 7 rfl rfl)
theorem dX35_digit_56 : decode cX35_digit 56 = .ok (.iconst (-1), 1) := dk_2 (dk_at dksX35_digit_2 10 rfl rfl)
theorem dX35_digit_57 : decode cX35_digit 57 = .ok (.ireturn, 1) := dk_172 (dk_at dksX35_digit_2 11 rfl rfl)
theorem dX35_digit_58 : decode cX35_digit 58 = .ok (.bipush 10, 2) := dk_16 10 (dk_at dksX35_digit_2 12 rfl rfl)
theorem dX35_digit_60 : decode cX35_digit 60 = .ok (.iload_n 3, 1) := dk_29 (dk_at dksX35_digit_2 14 rfl rfl)
theorem dX35_digit_61 : decode cX35_digit 61 = .ok (.imul, 1) := dk_104 (dk_at dksX35_digit_2 15 rfl rfl)
theorem dX35_digit_62 : decode cX35_digit 62 = .ok (.iload 5, 2) := dk_21 5 (dk_at dksX35_digit_2 16 rfl rfl)
theorem dX35_digit_64 : decode cX35_digit 64 = .ok (.iload_n 2, 1) := dk_28 (dk_at dksX35_digit_2 18 rfl rfl)
theorem dX35_digit_65 : decode cX35_digit 65 = .ok (.idiv, 1) := dk_108 (dk_at dksX35_digit_2 19 rfl rfl)
theorem dX35_digit_66 : decode cX35_digit 66 = .ok (.iadd, 1) := dk_96 (dk_at dksX35_digit_2 20 rfl rfl)
theorem dX35_digit_67 : decode cX35_digit 67 = .ok (.istore_n 3, 1) := dk_62 (dk_at dksX35_digit_2 21 rfl rfl)
theorem dX35_digit_68 : decode cX35_digit 68 = .ok (.iinc 4 1, 3) := dk_132 4 1 (dk_at dksX35_digit_3 0 rfl rfl)
theorem dX35_digit_71 : decode cX35_digit 71 = .ok (.goto (-41), 3) := dk_167 255 215 (dk_at dksX35_digit_3 3 rfl rfl)
theorem dX35_digit_74 : decode cX35_digit 74 = .ok (.getstatic 57, 3) := dk_178 0 57 (dk_at dksX35_digit_3 6 rfl rfl)
theorem dX35_digit_77 : decode cX35_digit 77 = .ok (.arraylength, 1) := dk_190 (dk_at dksX35_digit_3 9 rfl rfl)
theorem dX35_digit_78 : decode cX35_digit 78 = .ok (.iconst 1, 1) := dk_4 (dk_at dksX35_digit_3 10 rfl rfl)
theorem dX35_digit_79 : decode cX35_digit 79 = .ok (.isub, 1) := dk_100 (dk_at dksX35_digit_3 11 rfl rfl)
theorem dX35_digit_80 : decode cX35_digit 80 = .ok (.istore 4, 2) := dk_54 4 (dk_at dksX35_digit_3 12 rfl rfl)
theorem dX35_digit_82 : decode cX35_digit 82 = .ok (.iload 4, 2) := dk_21 4 (dk_at dksX35_digit_3 14 rfl rfl)
theorem dX35_digit_84 : decode cX35_digit 84 = .ok (.ifCond .lt 19, 3) := dk_155 0 19 (dk_at dksX35_digit_3 16 rfl rfl)
theorem dX35_digit_87 : decode cX35_digit 87 = .ok (.getstatic 57, 3) := dk_178 0 57 (dk_at dksX35_digit_3 19 rfl rfl)
theorem dX35_digit_90 : decode cX35_digit 90 = .ok (.iload 4, 2) := dk_21 4 (dk_at dksX35_digit_3 22 rfl rfl)
theorem dX35_digit_92 : decode cX35_digit 92 = .ok (.iaload, 1) := dk_46 (dk_at dksX35_digit_4 0 rfl rfl)
theorem dX35_digit_93 : decode cX35_digit 93 = .ok (.iload_n 3, 1) := dk_29 (dk_at dksX35_digit_4 1 rfl rfl)
theorem dX35_digit_94 : decode cX35_digit 94 = .ok (.if_icmp .eq 9, 3) := dk_159 0 9 (dk_at dksX35_digit_4 2 rfl rfl)
theorem dX35_digit_97 : decode cX35_digit 97 = .ok (.iinc 4 (-1), 3) := dk_132 4 255 (dk_at dksX35_digit_4 5 rfl rfl)
theorem dX35_digit_100 : decode cX35_digit 100 = .ok (.goto (-18), 3) := dk_167 255 238 (dk_at dksX35_digit_4 8 rfl rfl)
theorem dX35_digit_103 : decode cX35_digit 103 = .ok (.iload 4, 2) := dk_21 4 (dk_at dksX35_digit_4 11 rfl rfl)
theorem dX35_digit_105 : decode cX35_digit 105 = .ok (.ireturn, 1) := dk_172 (dk_at dksX35_digit_4 13 rfl rfl)
abbrev cX35_digitAt : ByteArray := prog_10_method_8_code
def yX35_digitAt : MethodName := ⟨RX35, "digitAt", "(I)I"⟩
def dkwX35_digitAt_0 : List UInt8 := [42, 180, 0, 19, 27, 51, 172]
abbrev dktX35_digitAt_0 : List UInt8 := dkwX35_digitAt_0 ++ []
theorem dksX35_digitAt_0 : cX35_digitAt.data.toList.drop 0 = dktX35_digitAt_0 := by decide +kernel
theorem dX35_digitAt_0 : decode cX35_digitAt 0 = .ok (.aload_n 0, 1) := dk_42 (dk_at dksX35_digitAt_0 0 rfl rfl)
theorem dX35_digitAt_1 : decode cX35_digitAt 1 = .ok (.getfield 19, 3) := dk_180 0 19 (dk_at dksX35_digitAt_0 1 rfl rfl)
theorem dX35_digitAt_4 : decode cX35_digitAt 4 = .ok (.iload_n 1, 1) := dk_27 (dk_at dksX35_digitAt_0 4 rfl rfl)
theorem dX35_digitAt_5 : decode cX35_digitAt 5 = .ok (.baload, 1) := dk_51 (dk_at dksX35_digitAt_0 5 rfl rfl)
theorem dX35_digitAt_6 : decode cX35_digitAt 6 = .ok (.ireturn, 1) := dk_172 (dk_at dksX35_digitAt_0 6 rfl rfl)
theorem q434 : (Jvm.Cond.initialized "WasteHouse$DepositCodes$Bars") ∈ lw_all := lw_g (lw_at lw_m1 42 rfl) rfl
theorem q1768 : (Jvm.Cond.instantiable "WasteHouse$DepositCodes$Bars" (5 : Nat)) ∈ lw_all := lw_g (lw_at lw_m6 176 rfl) rfl
theorem q1770 : (Jvm.Cond.instanceMethod ({ cls := "WasteHouse$DepositCodes$Bars", name := "<init>", desc := "()V" } : Jvm.MethodName)) ∈ lw_all := lw_g (lw_at lw_m6 178 rfl) rfl
theorem q1771 : (Jvm.Cond.code ({ cls := "WasteHouse$DepositCodes$Bars", name := "<init>", desc := "()V" } : Jvm.MethodName) prog_10_method_1_code (1 : Nat) (Option.none : Option Jvm.ClassFile.FieldType)) ∈ lw_all := lw_g (lw_at lw_m6 179 rfl) rfl
theorem q1772 : (Jvm.Cond.methodLink "WasteHouse$DepositCodes$Bars" (3 : Nat) ({ cls := "java/lang/Object", name := "<init>", desc := "()V" } : Jvm.MethodName)) ∈ lw_all := lw_g (lw_at lw_m6 180 rfl) rfl
theorem q1773 : (Jvm.Cond.fieldLink "WasteHouse$DepositCodes$Bars" (9 : Nat) "WasteHouse$DepositCodes$Bars" "widths" "[I") ∈ lw_all := lw_g (lw_at lw_m6 181 rfl) rfl
theorem q1774 : (Jvm.Cond.fieldLink "WasteHouse$DepositCodes$Bars" (15 : Nat) "WasteHouse$DepositCodes$Bars" "digits" "[B") ∈ lw_all := lw_g (lw_at lw_m6 182 rfl) rfl
theorem q1775 : (Jvm.Cond.fieldLink "WasteHouse$DepositCodes$Bars" (19 : Nat) "WasteHouse$DepositCodes$Bars" "last" "[B") ∈ lw_all := lw_g (lw_at lw_m6 183 rfl) rfl
theorem q1776 : (Jvm.Cond.fieldLink "WasteHouse$DepositCodes$Bars" (22 : Nat) "WasteHouse$DepositCodes$Bars" "isBack" "Z") ∈ lw_all := lw_g (lw_at lw_m6 184 rfl) rfl
theorem q1777 : (Jvm.Cond.fieldLink "WasteHouse$DepositCodes$Bars" (26 : Nat) "WasteHouse$DepositCodes$Bars" "size" "I") ∈ lw_all := lw_g (lw_at lw_m6 185 rfl) rfl
theorem q1778 : (Jvm.Cond.laysFinal "WasteHouse$DepositCodes$Bars" "WasteHouse$DepositCodes$Bars" "widths" "[I") ∈ lw_all := lw_g (lw_at lw_m6 186 rfl) rfl
theorem q1779 : (Jvm.Cond.soleField "WasteHouse$DepositCodes$Bars" "widths") ∈ lw_all := lw_g (lw_at lw_m6 187 rfl) rfl
theorem q1780 : (Jvm.Cond.laysFinal "WasteHouse$DepositCodes$Bars" "WasteHouse$DepositCodes$Bars" "digits" "[B") ∈ lw_all := lw_g (lw_at lw_m6 188 rfl) rfl
theorem q1781 : (Jvm.Cond.soleField "WasteHouse$DepositCodes$Bars" "digits") ∈ lw_all := lw_g (lw_at lw_m6 189 rfl) rfl
theorem q1782 : (Jvm.Cond.lays "WasteHouse$DepositCodes$Bars" "WasteHouse$DepositCodes$Bars" "last" "[B") ∈ lw_all := lw_g (lw_at lw_m6 190 rfl) rfl
theorem q1783 : (Jvm.Cond.soleField "WasteHouse$DepositCodes$Bars" "last") ∈ lw_all := lw_g (lw_at lw_m6 191 rfl) rfl
theorem q1784 : (Jvm.Cond.lays "WasteHouse$DepositCodes$Bars" "WasteHouse$DepositCodes$Bars" "isBack" "Z") ∈ lw_all := lw_g (lw_at lw_m6 192 rfl) rfl
theorem q1785 : (Jvm.Cond.soleField "WasteHouse$DepositCodes$Bars" "isBack") ∈ lw_all := lw_g (lw_at lw_m6 193 rfl) rfl
theorem q1786 : (Jvm.Cond.lays "WasteHouse$DepositCodes$Bars" "WasteHouse$DepositCodes$Bars" "size" "I") ∈ lw_all := lw_g (lw_at lw_m6 194 rfl) rfl
theorem q1787 : (Jvm.Cond.soleField "WasteHouse$DepositCodes$Bars" "size") ∈ lw_all := lw_g (lw_at lw_m6 195 rfl) rfl
theorem q1788 : (Jvm.Cond.superclass "WasteHouse$DepositCodes$Bars" "java/lang/Object") ∈ lw_all := lw_g (lw_at lw_m6 196 rfl) rfl
theorem q1981 : (Jvm.Cond.selects "WasteHouse$DepositCodes$Bars" ({ cls := "java/lang/Object", name := "getClass", desc := "()Ljava/lang/Class;" } : Jvm.MethodName) ({ cls := "java/lang/Object", name := "getClass", desc := "()Ljava/lang/Class;" } : Jvm.MethodName)) ∈ lw_all := lw_g (lw_at lw_m7 149 rfl) rfl
theorem q3089 : (Jvm.Cond.selects "WasteHouse$DepositCodes$Bars" ({ cls := "java/lang/Object", name := "equals", desc := "(Ljava/lang/Object;)Z" } : Jvm.MethodName) ({ cls := "java/lang/Object", name := "equals", desc := "(Ljava/lang/Object;)Z" } : Jvm.MethodName)) ∈ lw_all := lw_g (lw_at lw_m12 57 rfl) rfl
theorem q3460 : (Jvm.Cond.instanceMethod ({ cls := "WasteHouse$DepositCodes$Bars", name := "set", desc := "(II)V" } : Jvm.MethodName)) ∈ lw_all := lw_g (lw_at lw_m13 188 rfl) rfl
theorem q3461 : (Jvm.Cond.selects "WasteHouse$DepositCodes$Bars" ({ cls := "WasteHouse$DepositCodes$Bars", name := "set", desc := "(II)V" } : Jvm.MethodName) ({ cls := "WasteHouse$DepositCodes$Bars", name := "set", desc := "(II)V" } : Jvm.MethodName)) ∈ lw_all := lw_g (lw_at lw_m13 189 rfl) rfl
theorem q3462 : (Jvm.Cond.code ({ cls := "WasteHouse$DepositCodes$Bars", name := "set", desc := "(II)V" } : Jvm.MethodName) prog_10_method_2_code (3 : Nat) (Option.none : Option Jvm.ClassFile.FieldType)) ∈ lw_all := lw_g (lw_at lw_m13 190 rfl) rfl
theorem q3470 : (Jvm.Cond.instanceMethod ({ cls := "WasteHouse$DepositCodes$Bars", name := "read", desc := "(Z)I" } : Jvm.MethodName)) ∈ lw_all := lw_g (lw_at lw_m13 198 rfl) rfl
theorem q3471 : (Jvm.Cond.selects "WasteHouse$DepositCodes$Bars" ({ cls := "WasteHouse$DepositCodes$Bars", name := "read", desc := "(Z)I" } : Jvm.MethodName) ({ cls := "WasteHouse$DepositCodes$Bars", name := "read", desc := "(Z)I" } : Jvm.MethodName)) ∈ lw_all := lw_g (lw_at lw_m13 199 rfl) rfl
theorem q3472 : (Jvm.Cond.code ({ cls := "WasteHouse$DepositCodes$Bars", name := "read", desc := "(Z)I" } : Jvm.MethodName) prog_10_method_4_code (3 : Nat) (Option.some Jvm.ClassFile.FieldType.int)) ∈ lw_all := lw_g (lw_at lw_m13 200 rfl) rfl
theorem q3473 : (Jvm.Cond.methodLink "WasteHouse$DepositCodes$Bars" (30 : Nat) ({ cls := "WasteHouse$DepositCodes$Bars", name := "one", desc := "(Z)I" } : Jvm.MethodName)) ∈ lw_all := lw_g (lw_at lw_m13 201 rfl) rfl
theorem q3474 : (Jvm.Cond.privateMethod ({ cls := "WasteHouse$DepositCodes$Bars", name := "one", desc := "(Z)I" } : Jvm.MethodName)) ∈ lw_tbl := lw_at lw_m13 202 rfl
theorem q3475 : (Jvm.Cond.instanceMethod ({ cls := "WasteHouse$DepositCodes$Bars", name := "one", desc := "(Z)I" } : Jvm.MethodName)) ∈ lw_all := lw_g (lw_at lw_m13 203 rfl) rfl
theorem q3476 : (Jvm.Cond.code ({ cls := "WasteHouse$DepositCodes$Bars", name := "one", desc := "(Z)I" } : Jvm.MethodName) prog_10_method_5_code (6 : Nat) (Option.some Jvm.ClassFile.FieldType.int)) ∈ lw_all := lw_g (lw_at lw_m13 204 rfl) rfl
theorem q3477 : (Jvm.Cond.methodLink "WasteHouse$DepositCodes$Bars" (46 : Nat) ({ cls := "WasteHouse$DepositCodes$Bars", name := "isGuard", desc := "(I)Z" } : Jvm.MethodName)) ∈ lw_all := lw_g (lw_at lw_m13 205 rfl) rfl
theorem q3478 : (Jvm.Cond.privateMethod ({ cls := "WasteHouse$DepositCodes$Bars", name := "isGuard", desc := "(I)Z" } : Jvm.MethodName)) ∈ lw_tbl := lw_at lw_m13 206 rfl
theorem q3479 : (Jvm.Cond.instanceMethod ({ cls := "WasteHouse$DepositCodes$Bars", name := "isGuard", desc := "(I)Z" } : Jvm.MethodName)) ∈ lw_all := lw_g (lw_at lw_m13 207 rfl) rfl
theorem q3480 : (Jvm.Cond.code ({ cls := "WasteHouse$DepositCodes$Bars", name := "isGuard", desc := "(I)Z" } : Jvm.MethodName) prog_10_method_6_code (2 : Nat) (Option.some Jvm.ClassFile.FieldType.boolean)) ∈ lw_all := lw_g (lw_at lw_m13 208 rfl) rfl
theorem q3481 : (Jvm.Cond.methodLink "WasteHouse$DepositCodes$Bars" (54 : Nat) ({ cls := "WasteHouse$DepositCodes$Bars", name := "at", desc := "(I)I" } : Jvm.MethodName)) ∈ lw_all := lw_g (lw_at lw_m13 209 rfl) rfl
theorem q3482 : (Jvm.Cond.privateMethod ({ cls := "WasteHouse$DepositCodes$Bars", name := "at", desc := "(I)I" } : Jvm.MethodName)) ∈ lw_tbl := lw_at lw_m13 210 rfl
theorem q3483 : (Jvm.Cond.instanceMethod ({ cls := "WasteHouse$DepositCodes$Bars", name := "at", desc := "(I)I" } : Jvm.MethodName)) ∈ lw_all := lw_g (lw_at lw_m13 211 rfl) rfl
theorem q3484 : (Jvm.Cond.code ({ cls := "WasteHouse$DepositCodes$Bars", name := "at", desc := "(I)I" } : Jvm.MethodName) prog_10_method_3_code (2 : Nat) (Option.some Jvm.ClassFile.FieldType.int)) ∈ lw_all := lw_g (lw_at lw_m13 212 rfl) rfl
theorem q3485 : (Jvm.Cond.methodLink "WasteHouse$DepositCodes$Bars" (50 : Nat) ({ cls := "WasteHouse$DepositCodes$Bars", name := "digit", desc := "(I)I" } : Jvm.MethodName)) ∈ lw_all := lw_g (lw_at lw_m13 213 rfl) rfl
theorem q3486 : (Jvm.Cond.privateMethod ({ cls := "WasteHouse$DepositCodes$Bars", name := "digit", desc := "(I)I" } : Jvm.MethodName)) ∈ lw_tbl := lw_at lw_m13 214 rfl
theorem q3487 : (Jvm.Cond.instanceMethod ({ cls := "WasteHouse$DepositCodes$Bars", name := "digit", desc := "(I)I" } : Jvm.MethodName)) ∈ lw_all := lw_g (lw_at lw_m13 215 rfl) rfl
theorem q3488 : (Jvm.Cond.code ({ cls := "WasteHouse$DepositCodes$Bars", name := "digit", desc := "(I)I" } : Jvm.MethodName) prog_10_method_7_code (6 : Nat) (Option.some Jvm.ClassFile.FieldType.int)) ∈ lw_all := lw_g (lw_at lw_m13 216 rfl) rfl
theorem q3489 : (Jvm.Cond.fieldLink "WasteHouse$DepositCodes$Bars" (57 : Nat) "WasteHouse$DepositCodes$Bars" "PATTERNS" "[I") ∈ lw_all := lw_g (lw_at lw_m13 217 rfl) rfl
theorem q3490 : (Jvm.Cond.laysStatic "WasteHouse$DepositCodes$Bars" "PATTERNS" "[I") ∈ lw_tbl := lw_at lw_m13 218 rfl
theorem q3491 : (Jvm.Cond.methodLink "WasteHouse$DepositCodes$Bars" (34 : Nat) ({ cls := "java/lang/Math", name := "max", desc := "(II)I" } : Jvm.MethodName)) ∈ lw_all := lw_g (lw_at lw_m13 219 rfl) rfl
theorem q3492 : (Jvm.Cond.methodLink "WasteHouse$DepositCodes$Bars" (40 : Nat) ({ cls := "java/lang/System", name := "arraycopy", desc := "(Ljava/lang/Object;ILjava/lang/Object;II)V" } : Jvm.MethodName)) ∈ lw_all := lw_g (lw_at lw_m13 220 rfl) rfl
theorem q3502 : (Jvm.Cond.instanceMethod ({ cls := "WasteHouse$DepositCodes$Bars", name := "digitAt", desc := "(I)I" } : Jvm.MethodName)) ∈ lw_all := lw_g (lw_at lw_m13 230 rfl) rfl
theorem q3503 : (Jvm.Cond.selects "WasteHouse$DepositCodes$Bars" ({ cls := "WasteHouse$DepositCodes$Bars", name := "digitAt", desc := "(I)I" } : Jvm.MethodName) ({ cls := "WasteHouse$DepositCodes$Bars", name := "digitAt", desc := "(I)I" } : Jvm.MethodName)) ∈ lw_all := lw_g (lw_at lw_m13 231 rfl) rfl
theorem q3504 : (Jvm.Cond.code ({ cls := "WasteHouse$DepositCodes$Bars", name := "digitAt", desc := "(I)I" } : Jvm.MethodName) prog_10_method_8_code (2 : Nat) (Option.some Jvm.ClassFile.FieldType.int)) ∈ lw_all := lw_g (lw_at lw_m13 232 rfl) rfl
theorem q3604 : (Jvm.Cond.selects "WasteHouse$DepositCodes$Bars" ({ cls := "java/lang/Object", name := "hashCode", desc := "()I" } : Jvm.MethodName) ({ cls := "java/lang/Object", name := "hashCode", desc := "()I" } : Jvm.MethodName)) ∈ lw_all := lw_g (lw_at lw_m14 92 rfl) rfl
theorem q9656 : (Jvm.Cond.castable "WasteHouse$DepositCodes$Bars" "java/lang/Object") ∈ lw_tbl := lw_at lw_m39 144 rfl
theorem in_X35 : ∀ w ∈ wsX350, w ∈ lw_all := lw_in wsX350 [1778, 1780, 1782, 1784, 1786] (by decide +kernel) (by decide +kernel)
