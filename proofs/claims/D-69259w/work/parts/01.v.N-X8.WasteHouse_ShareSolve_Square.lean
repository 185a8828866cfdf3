/-! WasteHouse$ShareSolve$Square -/
set_option maxRecDepth 100000
def RX8 : String := "WasteHouse$ShareSolve$Square"
def TX8 : u_T := fun k => match k with
  | 0 => ("WasteHouse$ShareSolve$Square", "reckoner", "LWasteHouse$ShareSolve$Reckoner;", true)
  | 1 => ("WasteHouse$ShareSolve$Square", "cells", "[LWasteHouse$ShareSolve$Whole;", true)
  | 2 => ("WasteHouse$ShareSolve$Square", "before", "LWasteHouse$ShareSolve$Whole;", true)
  | 3 => ("WasteHouse$ShareSolve$Square", "pivot", "LWasteHouse$ShareSolve$Whole;", true)
  | 4 => ("WasteHouse$ShareSolve$Square", "made", "LWasteHouse$ShareSolve$Whole;", true)
  | 5 => ("WasteHouse$ShareSolve$Square", "by", "LWasteHouse$ShareSolve$Whole;", true)
  | _ => ("WasteHouse$ShareSolve$Square", "size", "I", false)
def tyX8 : Nat → FieldType := fun k => match k with
  | 0 => .object "WasteHouse$ShareSolve$Reckoner"
  | 1 => .array (.object "WasteHouse$ShareSolve$Whole")
  | 2 => .object "WasteHouse$ShareSolve$Whole"
  | 3 => .object "WasteHouse$ShareSolve$Whole"
  | 4 => .object "WasteHouse$ShareSolve$Whole"
  | 5 => .object "WasteHouse$ShareSolve$Whole"
  | _ => .int
abbrev wsX80 : List Cond := u_ws RX8 TX8 7
theorem nmX8 : ∀ a, a < 7 → ∀ b, b < 7 → a ≠ b → (TX8 a).2.1 ≠ (TX8 b).2.1 := by decide +kernel
theorem tyX8_ok : ∀ k, k < 7 → parseFieldDescriptor (TX8 k).2.2.1 = some (tyX8 k) := by decide +kernel
abbrev cX8_init : ByteArray := prog_45_method_1_code
def yX8_init : MethodName := ⟨RX8, "<init>", "()V"⟩
def dkwX8_init_4 : List UInt8 := [177]
abbrev dktX8_init_4 : List UInt8 := dkwX8_init_4 ++ []
def dkwX8_init_3 : List UInt8 := [16, 90, 162, 0, 22, 42, 180, 0, 18, 27, 187, 0, 16, 89, 183, 0, 22, 83, 132, 1, 1, 167, 255, 234]
abbrev dktX8_init_3 : List UInt8 := dkwX8_init_3 ++ dktX8_init_4
def dkwX8_init_2 : List UInt8 := [187, 0, 16, 89, 183, 0, 22, 181, 0, 30, 42, 187, 0, 16, 89, 183, 0, 22, 181, 0, 33, 3, 60, 27]
abbrev dktX8_init_2 : List UInt8 := dkwX8_init_2 ++ dktX8_init_3
def dkwX8_init_1 : List UInt8 := [42, 187, 0, 16, 89, 183, 0, 22, 181, 0, 23, 42, 187, 0, 16, 89, 183, 0, 22, 181, 0, 27, 42]
abbrev dktX8_init_1 : List UInt8 := dkwX8_init_1 ++ dktX8_init_2
def dkwX8_init_0 : List UInt8 := [42, 183, 0, 1, 42, 187, 0, 7, 89, 183, 0, 9, 181, 0, 10, 42, 16, 90, 189, 0, 16, 181, 0, 18]
abbrev dktX8_init_0 : List UInt8 := dkwX8_init_0 ++ dktX8_init_1
theorem dksX8_init_0 : cX8_init.data.toList.drop 0 = dktX8_init_0 := by decide +kernel
theorem dksX8_init_1 : cX8_init.data.toList.drop 24 = dktX8_init_1 := dk_seg dksX8_init_0 24 rfl rfl
theorem dksX8_init_2 : cX8_init.data.toList.drop 47 = dktX8_init_2 := dk_seg dksX8_init_1 23 rfl rfl
theorem dksX8_init_3 : cX8_init.data.toList.drop 71 = dktX8_init_3 := dk_seg dksX8_init_2 24 rfl rfl
theorem dksX8_init_4 : cX8_init.data.toList.drop 95 = dktX8_init_4 := dk_seg dksX8_init_3 24 rfl rfl
theorem dX8_init_0 : decode cX8_init 0 = .ok (.aload_n 0, 1) := dk_42 (dk_at dksX8_init_0 0 rfl rfl)
theorem dX8_init_1 : decode cX8_init 1 = .ok (.invokespecial 1, 3) := dk_183 0 1 (dk_at dksX8_init_0 1 rfl rfl)
theorem dX8_init_4 : decode cX8_init 4 = .ok (.aload_n 0, 1) := dk_42 (dk_at dksX8_init_0 4 rfl rfl)
theorem dX8_init_5 : decode cX8_init 5 = .ok (.new 7, 3) := dk_187 0 7 (dk_at dksX8_init_0 5 rfl rfl)
theorem dX8_init_8 : decode cX8_init 8 = .ok (.dup, 1) := dk_89 (dk_at dksX8_init_0 8 rfl rfl)
theorem dX8_init_9 : decode cX8_init 9 = .ok (.invokespecial 9, 3) := dk_183 0 9 (dk_at dksX8_init_0 9 rfl rfl)
theorem dX8_init_12 : decode cX8_init 12 = .ok (.putfield 10, 3) := dk_181 0 10 (dk_at dksX8_init_0 12 rfl rfl)
theorem dX8_init_15 : decode cX8_init 15 = .ok (.aload_n 0, 1) := dk_42 (dk_at dksX8_init_0 15 rfl rfl)
theorem dX8_init_16 : decode cX8_init 16 = .ok (.bipush 90, 2) := dk_16 90 (dk_at dksX8_init_0 16 rfl rfl)
theorem dX8_init_18 : decode cX8_init 18 = .ok (.anewarray 16, 3) := dk_189 0 16 (dk_at dksX8_init_0 18 rfl rfl)
theorem dX8_init_21 : decode cX8_init 21 = .ok (.putfield 18, 3) := dk_181 0 18 (dk_at dksX8_init_0 21 rfl rfl)
theorem dX8_init_24 : decode cX8_init 24 = .ok (.aload_n 0, 1) := dk_42 (dk_at dksX8_init_1 0 rfl rfl)
theorem dX8_init_25 : decode cX8_init 25 = .ok (.new 16, 3) := dk_187 0 16 (dk_at dksX8_init_1 1 rfl rfl)
theorem dX8_init_28 : decode cX8_init 28 = .ok (.dup, 1) := dk_89 (dk_at dksX8_init_1 4 rfl rfl)
theorem dX8_init_29 : decode cX8_init 29 = .ok (.invokespecial 22, 3) := dk_183 0 22 (dk_at dksX8_init_1 5 rfl rfl)
theorem dX8_init_32 : decode cX8_init 32 = .ok (.putfield 23, 3) := dk_181 0 23 (dk_at dksX8_init_1 8 rfl rfl)
theorem dX8_init_35 : decode cX8_init 35 = .ok (.aload_n 0, 1) := dk_42 (dk_at dksX8_init_1 11 rfl rfl)
theorem dX8_init_36 : decode cX8_init 36 = .ok (.new 16, 3) := dk_187 0 16 (dk_at dksX8_init_1 12 rfl rfl)
theorem dX8_init_39 : decode cX8_init 39 = .ok (.dup, 1) := dk_89 (dk_at dksX8_init_1 15 rfl rfl)
theorem dX8_init_40 : decode cX8_init 40 = .ok (.invokespecial 22, 3) := dk_183 0 22 (dk_at dksX8_init_1 16 rfl rfl)
theorem dX8_init_43 : decode cX8_init 43 = .ok (.putfield 27, 3) := dk_181 0 27 (dk_at dksX8_init_1 19 rfl rfl)
theorem dX8_init_46 : decode cX8_init 46 = .ok (.aload_n 0, 1) := dk_42 (dk_at dksX8_init_1 22 rfl rfl)
theorem dX8_init_47 : decode cX8_init 47 = .ok (.new 16, 3) := dk_187 0 16 (dk_at dksX8_init_2 0 rfl rfl)
theorem dX8_init_50 : decode cX8_init 50 = .ok (.dup, 1) := dk_89 (dk_at dksX8_init_2 3 rfl rfl)
theorem dX8_init_51 : decode cX8_init 51 = .ok (.invokespecial 22, 3) := dk_183 0 22 (dk_at dksX8_init_2 4 rfl rfl)
theorem dX8_init_54 : decode cX8_init 54 = .ok (.putfield 30, 3) := dk_181 0 30 (dk_at dksX8_init_2 7 rfl rfl)
theorem dX8_init_57 : decode cX8_init 57 = .ok (.aload_n 0, 1) := dk_42 (dk_at dksX8_init_2 10 rfl rfl)
theorem dX8_init_58 : decode cX8_init 58 = .ok (.new 16, 3) := dk_187 0 16 (dk_at dksX8_init_2 11 rfl rfl)
theorem dX8_init_61 : decode cX8_init 61 = .ok (.dup, 1) := dk_89 (dk_at dksX8_init_2 14 rfl rfl)
theorem dX8_init_62 : decode cX8_init 62 = .ok (.invokespecial 22, 3) := dk_183 0 22 (dk_at dksX8_init_2 15 rfl rfl)
theorem dX8_init_65 : decode cX8_init 65 = .ok (.putfield 33, 3) := dk_181 0 33 (dk_at dksX8_init_2 18 rfl rfl)
theorem dX8_init_68 : decode cX8_init 68 = .ok (.iconst 0, 1) := dk_3 (dk_at dksX8_init_2 21 rfl rfl)
theorem dX8_init_69 : decode cX8_init 69 = .ok (.istore_n 1, 1) := dk_60 (dk_at dksX8_init_2 22 rfl rfl)
theorem dX8_init_70 : decode cX8_init 70 = .ok (.iload_n 1, 1) := dk_27 (dk_at dksX8_init_2 23 rfl rfl)
theorem dX8_init_71 : decode cX8_init 71 = .ok (.bipush 90, 2) := dk_16 90 (dk_at dksX8_init_3 0 rfl rfl)
theorem dX8_init_73 : decode cX8_init 73 = .ok (.if_icmp .ge 22, 3) := dk_162 0 22 (dk_at dksX8_init_3 2 rfl rfl)
theorem dX8_init_76 : decode cX8_init 76 = .ok (.aload_n 0, 1) := dk_42 (dk_at dksX8_init_3 5 rfl rfl)
theorem dX8_init_77 : decode cX8_init 77 = .ok (.getfield 18, 3) := dk_180 0 18 (dk_at dksX8_init_3 6 rfl rfl)
theorem dX8_init_80 : decode cX8_init 80 = .ok (.iload_n 1, 1) := dk_27 (dk_at dksX8_init_3 9 rfl rfl)
theorem dX8_init_81 : decode cX8_init 81 = .ok (.new 16, 3) := dk_187 0 16 (dk_at dksX8_init_3 10 rfl rfl)
theorem dX8_init_84 : decode cX8_init 84 = .ok (.dup, 1) := dk_89 (dk_at dksX8_init_3 13 rfl rfl)
theorem dX8_init_85 : decode cX8_init 85 = .ok (.invokespecial 22, 3) := dk_183 0 22 (dk_at dksX8_init_3 14 rfl rfl)
theorem dX8_init_88 : decode cX8_init 88 = .ok (.aastore, 1) := dk_83 (dk_at dksX8_init_3 17 rfl rfl)
theorem dX8_init_89 : decode cX8_init 89 = .ok (.iinc 1 1, 3) := dk_132 1 1 (dk_at dksX8_init_3 18 rfl rfl)
theorem dX8_init_92 : decode cX8_init 92 = .ok (.goto (-22), 3) := dk_167 255 234 (dk_at dksX8_init_3 21 rfl rfl)
theorem dX8_init_95 : decode cX8_init 95 = .ok (.return_, 1) := dk_177 (dk_at dksX8_init_4 0 rfl rfl)
abbrev cX8_begin : ByteArray := prog_45_method_2_code
def yX8_begin : MethodName := ⟨RX8, "begin", "(I)V"⟩
def dkwX8_begin_1 : List UInt8 := [132, 2, 1, 167, 255, 237, 177]
abbrev dktX8_begin_1 : List UInt8 := dkwX8_begin_1 ++ []
def dkwX8_begin_0 : List UInt8 := [42, 27, 181, 0, 36, 3, 61, 28, 16, 90, 162, 0, 19, 42, 180, 0, 18, 28, 50, 3, 182, 0, 40]
abbrev dktX8_begin_0 : List UInt8 := dkwX8_begin_0 ++ dktX8_begin_1
theorem dksX8_begin_0 : cX8_begin.data.toList.drop 0 = dktX8_begin_0 := by decide +kernel
theorem dksX8_begin_1 : cX8_begin.data.toList.drop 23 = dktX8_begin_1 := dk_seg dksX8_begin_0 23 rfl rfl
theorem dX8_begin_0 : decode cX8_begin 0 = .ok (.aload_n 0, 1) := dk_42 (dk_at dksX8_begin_0 0 rfl rfl)
theorem dX8_begin_1 : decode cX8_begin 1 = .ok (.iload_n 1, 1) := dk_27 (dk_at dksX8_begin_0 1 rfl rfl)
theorem dX8_begin_2 : decode cX8_begin 2 = .ok (.putfield 36, 3) := dk_181 0 36 (dk_at dksX8_begin_0 2 rfl rfl)
theorem dX8_begin_5 : decode cX8_begin 5 = .ok (.iconst 0, 1) := dk_3 (dk_at dksX8_begin_0 5 rfl rfl)
theorem dX8_begin_6 : decode cX8_begin 6 = .ok (.istore_n 2, 1) := dk_61 (dk_at dksX8_begin_0 6 rfl rfl)
theorem dX8_begin_7 : decode cX8_begin 7 = .ok (.iload_n 2, 1) := dk_28 (dk_at dksX8_begin_0 7 rfl rfl)
theorem dX8_begin_8 : decode cX8_begin 8 = .ok (.bipush 90, 2) := dk_16 90 (dk_at dksX8_begin_0 8 rfl rfl)
theorem dX8_begin_10 : decode cX8_begin 10 = .ok (.if_icmp .ge 19, 3) := dk_162 0 19 (dk_at dksX8_begin_0 10 rfl rfl)
theorem dX8_begin_13 : decode cX8_begin 13 = .ok (.aload_n 0, 1) := dk_42 (dk_at dksX8_begin_0 13 rfl rfl)
theorem dX8_begin_14 : decode cX8_begin 14 = .ok (.getfield 18, 3) := dk_180 0 18 (dk_at dksX8_begin_0 14 rfl rfl)
theorem dX8_begin_17 : decode cX8_begin 17 = .ok (.iload_n 2, 1) := dk_28 (dk_at dksX8_begin_0 17 rfl rfl)
theorem dX8_begin_18 : decode cX8_begin 18 = .ok (.aaload, 1) := dk_50 (dk_at dksX8_begin_0 18 rfl rfl)
theorem dX8_begin_19 : decode cX8_begin 19 = .ok (.iconst 0, 1) := dk_3 (dk_at dksX8_begin_0 19 rfl rfl)
theorem dX8_begin_20 : decode cX8_begin 20 = .ok (.invokevirtual 40, 3) := dk_182 0 40 (dk_at dksX8_begin_0 20 rfl rfl)
theorem dX8_begin_23 : decode cX8_begin 23 = .ok (.iinc 2 1, 3) := dk_132 2 1 (dk_at dksX8_begin_1 0 rfl rfl)
theorem dX8_begin_26 : decode cX8_begin 26 = .ok (.goto (-19), 3) := dk_167 255 237 (dk_at dksX8_begin_1 3 rfl rfl)
theorem dX8_begin_29 : decode cX8_begin 29 = .ok (.return_, 1) := dk_177 (dk_at dksX8_begin_1 6 rfl rfl)
abbrev cX8_add : ByteArray := prog_45_method_4_code
def yX8_add : MethodName := ⟨RX8, "add", "(IIII)V"⟩
def dkwX8_add_3 : List UInt8 := [42, 180, 0, 27, 184, 0, 60, 177]
abbrev dktX8_add_3 : List UInt8 := dkwX8_add_3 ++ []
def dkwX8_add_2 : List UInt8 := [42, 180, 0, 27, 182, 0, 52, 154, 0, 7, 4, 167, 0, 4, 3, 181, 0, 48, 42, 27, 28, 182, 0, 56]
abbrev dktX8_add_2 : List UInt8 := dkwX8_add_2 ++ dktX8_add_3
def dkwX8_add_1 : List UInt8 := [180, 0, 33, 42, 180, 0, 27, 184, 0, 44, 42, 180, 0, 27, 42, 180, 0, 27, 180, 0, 48, 154, 0, 17]
abbrev dktX8_add_1 : List UInt8 := dkwX8_add_1 ++ dktX8_add_2
def dkwX8_add_0 : List UInt8 := [42, 180, 0, 30, 29, 182, 0, 40, 42, 180, 0, 33, 21, 4, 182, 0, 40, 42, 180, 0, 30, 42]
abbrev dktX8_add_0 : List UInt8 := dkwX8_add_0 ++ dktX8_add_1
theorem dksX8_add_0 : cX8_add.data.toList.drop 0 = dktX8_add_0 := by decide +kernel
theorem dksX8_add_1 : cX8_add.data.toList.drop 22 = dktX8_add_1 := dk_seg dksX8_add_0 22 rfl rfl
theorem dksX8_add_2 : cX8_add.data.toList.drop 46 = dktX8_add_2 := dk_seg dksX8_add_1 24 rfl rfl
theorem dksX8_add_3 : cX8_add.data.toList.drop 70 = dktX8_add_3 := dk_seg dksX8_add_2 24 rfl rfl
theorem dX8_add_0 : decode cX8_add 0 = .ok (.aload_n 0, 1) := dk_42 (dk_at dksX8_add_0 0 rfl rfl)
theorem dX8_add_1 : decode cX8_add 1 = .ok (.getfield 30, 3) := dk_180 0 30 (dk_at dksX8_add_0 1 rfl rfl)
theorem dX8_add_4 : decode cX8_add 4 = .ok (.iload_n 3, 1) := dk_29 (dk_at dksX8_add_0 4 rfl rfl)
theorem dX8_add_5 : decode cX8_add 5 = .ok (.invokevirtual 40, 3) := dk_182 0 40 (dk_at dksX8_add_0 5 rfl rfl)
theorem dX8_add_8 : decode cX8_add 8 = .ok (.aload_n 0, 1) := dk_42 (dk_at dksX8_add_0 8 rfl rfl)
theorem dX8_add_9 : decode cX8_add 9 = .ok (.getfield 33, 3) := dk_180 0 33 (dk_at dksX8_add_0 9 rfl rfl)
theorem dX8_add_12 : decode cX8_add 12 = .ok (.iload 4, 2) := dk_21 4 (dk_at dksX8_add_0 12 rfl rfl)
theorem dX8_add_14 : decode cX8_add 14 = .ok (.invokevirtual 40, 3) := dk_182 0 40 (dk_at dksX8_add_0 14 rfl rfl)
theorem dX8_add_17 : decode cX8_add 17 = .ok (.aload_n 0, 1) := dk_42 (dk_at dksX8_add_0 17 rfl rfl)
theorem dX8_add_18 : decode cX8_add 18 = .ok (.getfield 30, 3) := dk_180 0 30 (dk_at dksX8_add_0 18 rfl rfl)
theorem dX8_add_21 : decode cX8_add 21 = .ok (.aload_n 0, 1) := dk_42 (dk_at dksX8_add_0 21 rfl rfl)
theorem dX8_add_22 : decode cX8_add 22 = .ok (.getfield 33, 3) := dk_180 0 33 (dk_at dksX8_add_1 0 rfl rfl)
theorem dX8_add_25 : decode cX8_add 25 = .ok (.aload_n 0, 1) := dk_42 (dk_at dksX8_add_1 3 rfl rfl)
theorem dX8_add_26 : decode cX8_add 26 = .ok (.getfield 27, 3) := dk_180 0 27 (dk_at dksX8_add_1 4 rfl rfl)
theorem dX8_add_29 : decode cX8_add 29 = .ok (.invokestatic 44, 3) := dk_184 0 44 (dk_at dksX8_add_1 7 rfl rfl)
theorem dX8_add_32 : decode cX8_add 32 = .ok (.aload_n 0, 1) := dk_42 (dk_at dksX8_add_1 10 rfl rfl)
theorem dX8_add_33 : decode cX8_add 33 = .ok (.getfield 27, 3) := dk_180 0 27 (dk_at dksX8_add_1 11 rfl rfl)
theorem dX8_add_36 : decode cX8_add 36 = .ok (.aload_n 0, 1) := dk_42 (dk_at dksX8_add_1 14 rfl rfl)
theorem dX8_add_37 : decode cX8_add 37 = .ok (.getfield 27, 3) := dk_180 0 27 (dk_at dksX8_add_1 15 rfl rfl)
theorem dX8_add_40 : decode cX8_add 40 = .ok (.getfield 48, 3) := dk_180 0 48 (dk_at dksX8_add_1 18 rfl rfl)
theorem dX8_add_43 : decode cX8_add 43 = .ok (.ifCond .ne 17, 3) := dk_154 0 17 (dk_at dksX8_add_1 21 rfl rfl)
theorem dX8_add_46 : decode cX8_add 46 = .ok (.aload_n 0, 1) := dk_42 (dk_at dksX8_add_2 0 rfl rfl)
theorem dX8_add_47 : decode cX8_add 47 = .ok (.getfield 27, 3) := dk_180 0 27 (dk_at dksX8_add_2 1 rfl rfl)
theorem dX8_add_50 : decode cX8_add 50 = .ok (.invokevirtual 52, 3) := dk_182 0 52 (dk_at dksX8_add_2 4 rfl rfl)
theorem dX8_add_53 : decode cX8_add 53 = .ok (.ifCond .ne 7, 3) := dk_154 0 7 (dk_at dksX8_add_2 7 rfl rfl)
theorem dX8_add_56 : decode cX8_add 56 = .ok (.iconst 1, 1) := dk_4 (dk_at dksX8_add_2 10 rfl rfl)
theorem dX8_add_57 : decode cX8_add 57 = .ok (.goto 4, 3) := dk_167 0 4 (dk_at dksX8_add_2 11 rfl rfl)
theorem dX8_add_60 : decode cX8_add 60 = .ok (.iconst 0, 1) := dk_3 (dk_at dksX8_add_2 14 rfl rfl)
theorem dX8_add_61 : decode cX8_add 61 = .ok (.putfield 48, 3) := dk_181 0 48 (dk_at dksX8_add_2 15 rfl rfl)
theorem dX8_add_64 : decode cX8_add 64 = .ok (.aload_n 0, 1) := dk_42 (dk_at dksX8_add_2 18 rfl rfl)
theorem dX8_add_65 : decode cX8_add 65 = .ok (.iload_n 1, 1) := dk_27 (dk_at dksX8_add_2 19 rfl rfl)
theorem dX8_add_66 : decode cX8_add 66 = .ok (.iload_n 2, 1) := dk_28 (dk_at dksX8_add_2 20 rfl rfl)
theorem dX8_add_67 : decode cX8_add 67 = .ok (.invokevirtual 56, 3) := dk_182 0 56 (dk_at dksX8_add_2 21 rfl rfl)
theorem dX8_add_70 : decode cX8_add 70 = .ok (.aload_n 0, 1) := dk_42 (dk_at dksX8_add_3 0 rfl rfl)
theorem dX8_add_71 : decode cX8_add 71 = .ok (.getfield 27, 3) := dk_180 0 27 (dk_at dksX8_add_3 1 rfl rfl)
theorem dX8_add_74 : decode cX8_add 74 = .ok (.invokestatic 60, 3) := dk_184 0 60 (dk_at dksX8_add_3 4 rfl rfl)
theorem dX8_add_77 : decode cX8_add 77 = .ok (.return_, 1) := dk_177 (dk_at dksX8_add_3 7 rfl rfl)
abbrev cX8_at : ByteArray := prog_45_method_3_code
def yX8_at : MethodName := ⟨RX8, "at", "(II)LWasteHouse$ShareSolve$Whole;"⟩
def dkwX8_at_1 : List UInt8 := [176]
abbrev dktX8_at_1 : List UInt8 := dkwX8_at_1 ++ []
def dkwX8_at_0 : List UInt8 := [42, 180, 0, 18, 16, 10, 27, 104, 28, 42, 180, 0, 36, 160, 0, 8, 16, 9, 167, 0, 4, 28, 96, 50]
abbrev dktX8_at_0 : List UInt8 := dkwX8_at_0 ++ dktX8_at_1
theorem dksX8_at_0 : cX8_at.data.toList.drop 0 = dktX8_at_0 := by decide +kernel
theorem dksX8_at_1 : cX8_at.data.toList.drop 24 = dktX8_at_1 := dk_seg dksX8_at_0 24 rfl rfl
theorem dX8_at_0 : decode cX8_at 0 = .ok (.aload_n 0, 1) := dk_42 (dk_at dksX8_at_0 0 rfl rfl)
theorem dX8_at_1 : decode cX8_at 1 = .ok (.getfield 18, 3) := dk_180 0 18 (dk_at dksX8_at_0 1 rfl rfl)
theorem dX8_at_4 : decode cX8_at 4 = .ok (.bipush 10, 2) := dk_16 10 (dk_at dksX8_at_0 4 rfl rfl)
theorem dX8_at_6 : decode cX8_at 6 = .ok (.iload_n 1, 1) := dk_27 (dk_at dksX8_at_0 6 rfl rfl)
theorem dX8_at_7 : decode cX8_at 7 = .ok (.imul, 1) := dk_104 (dk_at dksX8_at_0 7 rfl rfl)
theorem dX8_at_8 : decode cX8_at 8 = .ok (.iload_n 2, 1) := dk_28 (dk_at dksX8_at_0 8 rfl rfl)
theorem dX8_at_9 : decode cX8_at 9 = .ok (.aload_n 0, 1) := dk_42 (dk_at dksX8_at_0 9 rfl rfl)
theorem dX8_at_10 : decode cX8_at 10 = .ok (.getfield 36, 3) := dk_180 0 36 (dk_at dksX8_at_0 10 rfl rfl)
theorem dX8_at_13 : decode cX8_at 13 = .ok (.if_icmp .ne 8, 3) := dk_160 0 8 (dk_at dksX8_at_0 13 rfl rfl)
theorem dX8_at_16 : decode cX8_at 16 = .ok (.bipush 9, 2) := dk_16 9 (dk_at dksX8_at_0 16 rfl rfl)
theorem dX8_at_18 : decode cX8_at 18 = .ok (.goto 4, 3) := dk_167 0 4 (dk_at dksX8_at_0 18 rfl rfl)
theorem dX8_at_21 : decode cX8_at 21 = .ok (.iload_n 2, 1) := dk_28 (dk_at dksX8_at_0 21 rfl rfl)
theorem dX8_at_22 : decode cX8_at 22 = .ok (.iadd, 1) := dk_96 (dk_at dksX8_at_0 22 rfl rfl)
theorem dX8_at_23 : decode cX8_at 23 = .ok (.aaload, 1) := dk_50 (dk_at dksX8_at_0 23 rfl rfl)
theorem dX8_at_24 : decode cX8_at 24 = .ok (.areturn, 1) := dk_176 (dk_at dksX8_at_1 0 rfl rfl)
abbrev cX8_solve : ByteArray := prog_45_method_5_code
def yX8_solve : MethodName := ⟨RX8, "solve", "()Z"⟩
def dkwX8_solve_5 : List UInt8 := [167, 255, 150, 4, 172]
abbrev dktX8_solve_5 : List UInt8 := dkwX8_solve_5 ++ []
def dkwX8_solve_4 : List UInt8 := [182, 0, 72, 132, 3, 1, 167, 255, 234, 42, 180, 0, 23, 42, 180, 0, 27, 182, 0, 68, 132, 1, 1]
abbrev dktX8_solve_4 : List UInt8 := dkwX8_solve_4 ++ dktX8_solve_5
def dkwX8_solve_3 : List UInt8 := [182, 0, 56, 182, 0, 68, 3, 62, 29, 42, 180, 0, 36, 162, 0, 20, 29, 27, 159, 0, 9, 42, 29, 27]
abbrev dktX8_solve_3 : List UInt8 := dkwX8_solve_3 ++ dktX8_solve_4
def dkwX8_solve_2 : List UInt8 := [28, 42, 180, 0, 36, 160, 0, 5, 3, 172, 42, 28, 27, 182, 0, 64, 42, 180, 0, 27, 42, 27, 27]
abbrev dktX8_solve_2 : List UInt8 := dkwX8_solve_2 ++ dktX8_solve_3
def dkwX8_solve_1 : List UInt8 := [180, 0, 36, 162, 0, 21, 42, 28, 27, 182, 0, 56, 182, 0, 52, 153, 0, 9, 132, 2, 1, 167, 255, 233]
abbrev dktX8_solve_1 : List UInt8 := dkwX8_solve_1 ++ dktX8_solve_2
def dkwX8_solve_0 : List UInt8 := [42, 180, 0, 23, 4, 182, 0, 40, 3, 60, 27, 42, 180, 0, 36, 162, 0, 104, 27, 61, 28, 42]
abbrev dktX8_solve_0 : List UInt8 := dkwX8_solve_0 ++ dktX8_solve_1
theorem dksX8_solve_0 : cX8_solve.data.toList.drop 0 = dktX8_solve_0 := by decide +kernel
theorem dksX8_solve_1 : cX8_solve.data.toList.drop 22 = dktX8_solve_1 := dk_seg dksX8_solve_0 22 rfl rfl
theorem dksX8_solve_2 : cX8_solve.data.toList.drop 46 = dktX8_solve_2 := dk_seg dksX8_solve_1 24 rfl rfl
theorem dksX8_solve_3 : cX8_solve.data.toList.drop 69 = dktX8_solve_3 := dk_seg dksX8_solve_2 23 rfl rfl
theorem dksX8_solve_4 : cX8_solve.data.toList.drop 93 = dktX8_solve_4 := dk_seg dksX8_solve_3 24 rfl rfl
theorem dksX8_solve_5 : cX8_solve.data.toList.drop 116 = dktX8_solve_5 := dk_seg dksX8_solve_4 23 rfl rfl
theorem dX8_solve_0 : decode cX8_solve 0 = .ok (.aload_n 0, 1) := dk_42 (dk_at dksX8_solve_0 0 rfl rfl)
theorem dX8_solve_1 : decode cX8_solve 1 = .ok (.getfield 23, 3) := dk_180 0 23 (dk_at dksX8_solve_0 1 rfl rfl)
theorem dX8_solve_4 : decode cX8_solve 4 = .ok (.iconst 1, 1) := dk_4 (dk_at dksX8_solve_0 4 rfl rfl)
theorem dX8_solve_5 : decode cX8_solve 5 = .ok (.invokevirtual 40, 3) := dk_182 0 40 (dk_at dksX8_solve_0 5 rfl rfl)
theorem dX8_solve_8 : decode cX8_solve 8 = .ok (.iconst 0, 1) := dk_3 (dk_at dksX8_solve_0 8 rfl rfl)
theorem dX8_solve_9 : decode cX8_solve 9 = .ok (.istore_n 1, 1) := dk_60 (dk_at dksX8_solve_0 9 rfl rfl)
theorem dX8_solve_10 : decode cX8_solve 10 = .ok (.iload_n 1, 1) := dk_27 (dk_at dksX8_solve_0 10 rfl rfl)
theorem dX8_solve_11 : decode cX8_solve 11 = .ok (.aload_n 0, 1) := dk_42 (dk_at dksX8_solve_0 11 rfl rfl)
theorem dX8_solve_12 : decode cX8_solve 12 = .ok (.getfield 36, 3) := dk_180 0 36 (dk_at dksX8_solve_0 12 rfl rfl)
theorem dX8_solve_15 : decode cX8_solve 15 = .ok (.if_icmp .ge 104, 3) := dk_162 0 104 (dk_at dksX8_solve_0 15 rfl rfl)
theorem dX8_solve_18 : decode cX8_solve 18 = .ok (.iload_n 1, 1) := dk_27 (dk_at dksX8_solve_0 18 rfl rfl)
theorem dX8_solve_19 : decode cX8_solve 19 = .ok (.istore_n 2, 1) := dk_61 (dk_at dksX8_solve_0 19 rfl rfl)
theorem dX8_solve_20 : decode cX8_solve 20 = .ok (.iload_n 2, 1) := dk_28 (dk_at dksX8_solve_0 20 rfl rfl)
theorem dX8_solve_21 : decode cX8_solve 21 = .ok (.aload_n 0, 1) := dk_42 (dk_at dksX8_solve_0 21 rfl rfl)
theorem dX8_solve_22 : decode cX8_solve 22 = .ok (.getfield 36, 3) := dk_180 0 36 (dk_at dksX8_solve_1 0 rfl rfl)
theorem dX8_solve_25 : decode cX8_solve 25 = .ok (.if_icmp .ge 21, 3) := dk_162 0 21 (dk_at dksX8_solve_1 3 rfl rfl)
theorem dX8_solve_28 : decode cX8_solve 28 = .ok (.aload_n 0, 1) := dk_42 (dk_at dksX8_solve_1 6 rfl rfl)
theorem dX8_solve_29 : decode cX8_solve 29 = .ok (.iload_n 2, 1) := dk_28 (dk_at dksX8_solve_1 7 rfl rfl)
theorem dX8_solve_30 : decode cX8_solve 30 = .ok (.iload_n 1, 1) := dk_27 (dk_at dksX8_solve_1 8 rfl rfl)
theorem dX8_solve_31 : decode cX8_solve 31 = .ok (.invokevirtual 56, 3) := dk_182 0 56 (dk_at dksX8_solve_1 9 rfl rfl)
theorem dX8_solve_34 : decode cX8_solve 34 = .ok (.invokevirtual 52, 3) := dk_182 0 52 (dk_at dksX8_solve_1 12 rfl rfl)
theorem dX8_solve_37 : decode cX8_solve 37 = .ok (.ifCond .eq 9, 3) := dk_153 0 9 (dk_at dksX8_solve_1 15 rfl rfl)
theorem dX8_solve_40 : decode cX8_solve 40 = .ok (.iinc 2 1, 3) := dk_132 2 1 (dk_at dksX8_solve_1 18 rfl rfl)
theorem dX8_solve_43 : decode cX8_solve 43 = .ok (.goto (-23), 3) := dk_167 255 233 (dk_at dksX8_solve_1 21 rfl rfl)
theorem dX8_solve_46 : decode cX8_solve 46 = .ok (.iload_n 2, 1) := dk_28 (dk_at dksX8_solve_2 0 rfl rfl)
theorem dX8_solve_47 : decode cX8_solve 47 = .ok (.aload_n 0, 1) := dk_42 (dk_at dksX8_solve_2 1 rfl rfl)
theorem dX8_solve_48 : decode cX8_solve 48 = .ok (.getfield 36, 3) := dk_180 0 36 (dk_at dksX8_solve_2 2 rfl rfl)
theorem dX8_solve_51 : decode cX8_solve 51 = .ok (.if_icmp .ne 5, 3) := dk_160 0 5 (dk_at dksX8_solve_2 5 rfl rfl)
theorem dX8_solve_54 : decode cX8_solve 54 = .ok (.iconst 0, 1) := dk_3 (dk_at dksX8_solve_2 8 rfl rfl)
theorem dX8_solve_55 : decode cX8_solve 55 = .ok (.ireturn, 1) := dk_172 (dk_at dksX8_solve_2 9 rfl rfl)
theorem dX8_solve_56 : decode cX8_solve 56 = .ok (.aload_n 0, 1) := dk_42 (dk_at dksX8_solve_2 10 rfl rfl)
theorem dX8_solve_57 : decode cX8_solve 57 = .ok (.iload_n 2, 1) := dk_28 (dk_at dksX8_solve_2 11 rfl rfl)
theorem dX8_solve_58 : decode cX8_solve 58 = .ok (.iload_n 1, 1) := dk_27 (dk_at dksX8_solve_2 12 rfl rfl)
theorem dX8_solve_59 : decode cX8_solve 59 = .ok (.invokevirtual 64, 3) := dk_182 0 64 (dk_at dksX8_solve_2 13 rfl rfl)
theorem dX8_solve_62 : decode cX8_solve 62 = .ok (.aload_n 0, 1) := dk_42 (dk_at dksX8_solve_2 16 rfl rfl)
theorem dX8_solve_63 : decode cX8_solve 63 = .ok (.getfield 27, 3) := dk_180 0 27 (dk_at dksX8_solve_2 17 rfl rfl)
theorem dX8_solve_66 : decode cX8_solve 66 = .ok (.aload_n 0, 1) := dk_42 (dk_at dksX8_solve_2 20 rfl rfl)
theorem dX8_solve_67 : decode cX8_solve 67 = .ok (.iload_n 1, 1) := dk_27 (dk_at dksX8_solve_2 21 rfl rfl)
theorem dX8_solve_68 : decode cX8_solve 68 = .ok (.iload_n 1, 1) := dk_27 (dk_at dksX8_solve_2 22 rfl rfl)
theorem dX8_solve_69 : decode cX8_solve 69 = .ok (.invokevirtual 56, 3) := dk_182 0 56 (dk_at dksX8_solve_3 0 rfl rfl)
theorem dX8_solve_72 : decode cX8_solve 72 = .ok (.invokevirtual 68, 3) := dk_182 0 68 (dk_at dksX8_solve_3 3 rfl rfl)
theorem dX8_solve_75 : decode cX8_solve 75 = .ok (.iconst 0, 1) := dk_3 (dk_at dksX8_solve_3 6 rfl rfl)
theorem dX8_solve_76 : decode cX8_solve 76 = .ok (.istore_n 3, 1) := dk_62 (dk_at dksX8_solve_3 7 rfl rfl)
theorem dX8_solve_77 : decode cX8_solve 77 = .ok (.iload_n 3, 1) := dk_29 (dk_at dksX8_solve_3 8 rfl rfl)
theorem dX8_solve_78 : decode cX8_solve 78 = .ok (.aload_n 0, 1) := dk_42 (dk_at dksX8_solve_3 9 rfl rfl)
theorem dX8_solve_79 : decode cX8_solve 79 = .ok (.getfield 36, 3) := dk_180 0 36 (dk_at dksX8_solve_3 10 rfl rfl)
theorem dX8_solve_82 : decode cX8_solve 82 = .ok (.if_icmp .ge 20, 3) := dk_162 0 20 (dk_at dksX8_solve_3 13 rfl rfl)
theorem dX8_solve_85 : decode cX8_solve 85 = .ok (.iload_n 3, 1) := dk_29 (dk_at dksX8_solve_3 16 rfl rfl)
theorem dX8_solve_86 : decode cX8_solve 86 = .ok (.iload_n 1, 1) := dk_27 (dk_at dksX8_solve_3 17 rfl rfl)
theorem dX8_solve_87 : decode cX8_solve 87 = .ok (.if_icmp .eq 9, 3) := dk_159 0 9 (dk_at dksX8_solve_3 18 rfl rfl)
theorem dX8_solve_90 : decode cX8_solve 90 = .ok (.aload_n 0, 1) := dk_42 (dk_at dksX8_solve_3 21 rfl rfl)
theorem dX8_solve_91 : decode cX8_solve 91 = .ok (.iload_n 3, 1) := dk_29 (dk_at dksX8_solve_3 22 rfl rfl)
theorem dX8_solve_92 : decode cX8_solve 92 = .ok (.iload_n 1, 1) := dk_27 (dk_at dksX8_solve_3 23 rfl rfl)
theorem dX8_solve_93 : decode cX8_solve 93 = .ok (.invokevirtual 72, 3) := dk_182 0 72 (dk_at dksX8_solve_4 0 rfl rfl)
theorem dX8_solve_96 : decode cX8_solve 96 = .ok (.iinc 3 1, 3) := dk_132 3 1 (dk_at dksX8_solve_4 3 rfl rfl)
theorem dX8_solve_99 : decode cX8_solve 99 = .ok (.goto (-22), 3) := dk_167 255 234 (dk_at dksX8_solve_4 6 rfl rfl)
theorem dX8_solve_102 : decode cX8_solve 102 = .ok (.aload_n 0, 1) := dk_42 (dk_at dksX8_solve_4 9 rfl rfl)
theorem dX8_solve_103 : decode cX8_solve 103 = .ok (.getfield 23, 3) := dk_180 0 23 (dk_at dksX8_solve_4 10 rfl rfl)
theorem dX8_solve_106 : decode cX8_solve 106 = .ok (.aload_n 0, 1) := dk_42 (dk_at dksX8_solve_4 13 rfl rfl)
theorem dX8_solve_107 : decode cX8_solve 107 = .ok (.getfield 27, 3) := dk_180 0 27 (dk_at dksX8_solve_4 14 rfl rfl)
theorem dX8_solve_110 : decode cX8_solve 110 = .ok (.invokevirtual 68, 3) := dk_182 0 68 (dk_at dksX8_solve_4 17 rfl rfl)
theorem dX8_solve_113 : decode cX8_solve 113 = .ok (.iinc 1 1, 3) := dk_132 1 1 (dk_at dksX8_solve_4 20 rfl rfl)
theorem dX8_solve_116 : decode cX8_solve 116 = .ok (.goto (-106), 3) := dk_167 255 150 (dk_at dksX8_solve_5 0 rfl rfl)
theorem dX8_solve_119 : decode cX8_solve 119 = .ok (.iconst 1, 1) := dk_4 (dk_at dksX8_solve_5 3 rfl rfl)
theorem dX8_solve_120 : decode cX8_solve 120 = .ok (.ireturn, 1) := dk_172 (dk_at dksX8_solve_5 4 rfl rfl)
abbrev cX8_swap : ByteArray := prog_45_method_6_code
def yX8_swap : MethodName := ⟨RX8, "swap", "(II)V"⟩
def dkwX8_swap_2 : List UInt8 := [182, 0, 56, 42, 180, 0, 30, 182, 0, 68, 132, 3, 1, 167, 255, 199, 177]
abbrev dktX8_swap_2 : List UInt8 := dkwX8_swap_2 ++ []
def dkwX8_swap_1 : List UInt8 := [182, 0, 56, 182, 0, 68, 42, 27, 29, 182, 0, 56, 42, 28, 29, 182, 0, 56, 182, 0, 68, 42, 28, 29]
abbrev dktX8_swap_1 : List UInt8 := dkwX8_swap_1 ++ dktX8_swap_2
def dkwX8_swap_0 : List UInt8 := [3, 62, 29, 42, 180, 0, 36, 163, 0, 55, 27, 28, 159, 0, 50, 42, 180, 0, 30, 42, 27, 29]
abbrev dktX8_swap_0 : List UInt8 := dkwX8_swap_0 ++ dktX8_swap_1
theorem dksX8_swap_0 : cX8_swap.data.toList.drop 0 = dktX8_swap_0 := by decide +kernel
theorem dksX8_swap_1 : cX8_swap.data.toList.drop 22 = dktX8_swap_1 := dk_seg dksX8_swap_0 22 rfl rfl
theorem dksX8_swap_2 : cX8_swap.data.toList.drop 46 = dktX8_swap_2 := dk_seg dksX8_swap_1 24 rfl rfl
theorem dX8_swap_0 : decode cX8_swap 0 = .ok (.iconst 0, 1) := dk_3 (dk_at dksX8_swap_0 0 rfl rfl)
theorem dX8_swap_1 : decode cX8_swap 1 = .ok (.istore_n 3, 1) := dk_62 (dk_at dksX8_swap_0 1 rfl rfl)
theorem dX8_swap_2 : decode cX8_swap 2 = .ok (.iload_n 3, 1) := dk_29 (dk_at dksX8_swap_0 2 rfl rfl)
theorem dX8_swap_3 : decode cX8_swap 3 = .ok (.aload_n 0, 1) := dk_42 (dk_at dksX8_swap_0 3 rfl rfl)
theorem dX8_swap_4 : decode cX8_swap 4 = .ok (.getfield 36, 3) := dk_180 0 36 (dk_at dksX8_swap_0 4 rfl rfl)
theorem dX8_swap_7 : decode cX8_swap 7 = .ok (.if_icmp .gt 55, 3) := dk_163 0 55 (dk_at dksX8_swap_0 7 rfl rfl)
theorem dX8_swap_10 : decode cX8_swap 10 = .ok (.iload_n 1, 1) := dk_27 (dk_at dksX8_swap_0 10 rfl rfl)
theorem dX8_swap_11 : decode cX8_swap 11 = .ok (.iload_n 2, 1) := dk_28 (dk_at dksX8_swap_0 11 rfl rfl)
theorem dX8_swap_12 : decode cX8_swap 12 = .ok (.if_icmp .eq 50, 3) := dk_159 0 50 (dk_at dksX8_swap_0 12 rfl rfl)
theorem dX8_swap_15 : decode cX8_swap 15 = .ok (.aload_n 0, 1) := dk_42 (dk_at dksX8_swap_0 15 rfl rfl)
theorem dX8_swap_16 : decode cX8_swap 16 = .ok (.getfield 30, 3) := dk_180 0 30 (dk_at dksX8_swap_0 16 rfl rfl)
theorem dX8_swap_19 : decode cX8_swap 19 = .ok (.aload_n 0, 1) := dk_42 (dk_at dksX8_swap_0 19 rfl rfl)
theorem dX8_swap_20 : decode cX8_swap 20 = .ok (.iload_n 1, 1) := dk_27 (dk_at dksX8_swap_0 20 rfl rfl)
theorem dX8_swap_21 : decode cX8_swap 21 = .ok (.iload_n 3, 1) := dk_29 (dk_at dksX8_swap_0 21 rfl rfl)
theorem dX8_swap_22 : decode cX8_swap 22 = .ok (.invokevirtual 56, 3) := dk_182 0 56 (dk_at dksX8_swap_1 0 rfl rfl)
theorem dX8_swap_25 : decode cX8_swap 25 = .ok (.invokevirtual 68, 3) := dk_182 0 68 (dk_at dksX8_swap_1 3 rfl rfl)
theorem dX8_swap_28 : decode cX8_swap 28 = .ok (.aload_n 0, 1) := dk_42 (dk_at dksX8_swap_1 6 rfl rfl)
theorem dX8_swap_29 : decode cX8_swap 29 = .ok (.iload_n 1, 1) := dk_27 (dk_at dksX8_swap_1 7 rfl rfl)
theorem dX8_swap_30 : decode cX8_swap 30 = .ok (.iload_n 3, 1) := dk_29 (dk_at dksX8_swap_1 8 rfl rfl)
theorem dX8_swap_31 : decode cX8_swap 31 = .ok (.invokevirtual 56, 3) := dk_182 0 56 (dk_at dksX8_swap_1 9 rfl rfl)
theorem dX8_swap_34 : decode cX8_swap 34 = .ok (.aload_n 0, 1) := dk_42 (dk_at dksX8_swap_1 12 rfl rfl)
theorem dX8_swap_35 : decode cX8_swap 35 = .ok (.iload_n 2, 1) := dk_28 (dk_at dksX8_swap_1 13 rfl rfl)
theorem dX8_swap_36 : decode cX8_swap 36 = .ok (.iload_n 3, 1) := dk_29 (dk_at dksX8_swap_1 14 rfl rfl)
theorem dX8_swap_37 : decode cX8_swap 37 = .ok (.invokevirtual 56, 3) := dk_182 0 56 (dk_at dksX8_swap_1 15 rfl rfl)
theorem dX8_swap_40 : decode cX8_swap 40 = .ok (.invokevirtual 68, 3) := dk_182 0 68 (dk_at dksX8_swap_1 18 rfl rfl)
theorem dX8_swap_43 : decode cX8_swap 43 = .ok (.aload_n 0, 1) := dk_42 (dk_at dksX8_swap_1 21 rfl rfl)
theorem dX8_swap_44 : decode cX8_swap 44 = .ok (.iload_n 2, 1) := dk_28 (dk_at dksX8_swap_1 22 rfl rfl)
theorem dX8_swap_45 : decode cX8_swap 45 = .ok (.iload_n 3, 1) := dk_29 (dk_at dksX8_swap_1 23 rfl rfl)
theorem dX8_swap_46 : decode cX8_swap 46 = .ok (.invokevirtual 56, 3) := dk_182 0 56 (dk_at dksX8_swap_2 0 rfl rfl)
theorem dX8_swap_49 : decode cX8_swap 49 = .ok (.aload_n 0, 1) := dk_42 (dk_at dksX8_swap_2 3 rfl rfl)
theorem dX8_swap_50 : decode cX8_swap 50 = .ok (.getfield 30, 3) := dk_180 0 30 (dk_at dksX8_swap_2 4 rfl rfl)
theorem dX8_swap_53 : decode cX8_swap 53 = .ok (.invokevirtual 68, 3) := dk_182 0 68 (dk_at dksX8_swap_2 7 rfl rfl)
theorem dX8_swap_56 : decode cX8_swap 56 = .ok (.iinc 3 1, 3) := dk_132 3 1 (dk_at dksX8_swap_2 10 rfl rfl)
theorem dX8_swap_59 : decode cX8_swap 59 = .ok (.goto (-57), 3) := dk_167 255 199 (dk_at dksX8_swap_2 13 rfl rfl)
theorem dX8_swap_62 : decode cX8_swap 62 = .ok (.return_, 1) := dk_177 (dk_at dksX8_swap_2 16 rfl rfl)
abbrev cX8_against : ByteArray := prog_45_method_7_code
def yX8_against : MethodName := ⟨RX8, "against", "(II)V"⟩
def dkwX8_against_4 : List UInt8 := [167, 255, 176, 177]
abbrev dktX8_against_4 : List UInt8 := dkwX8_against_4 ++ []
def dkwX8_against_3 : List UInt8 := [42, 180, 0, 23, 182, 0, 79, 42, 27, 29, 182, 0, 56, 42, 180, 0, 30, 182, 0, 68, 132, 3, 1]
abbrev dktX8_against_3 : List UInt8 := dkwX8_against_3 ++ dktX8_against_4
def dkwX8_against_2 : List UInt8 := [180, 0, 30, 182, 0, 75, 42, 180, 0, 30, 182, 0, 52, 154, 0, 18, 42, 180, 0, 10, 42, 180, 0, 30]
abbrev dktX8_against_2 : List UInt8 := dkwX8_against_2 ++ dktX8_against_3
def dkwX8_against_1 : List UInt8 := [180, 0, 10, 42, 27, 29, 182, 0, 56, 42, 180, 0, 27, 42, 180, 0, 33, 42, 28, 29, 182, 0, 56, 42]
abbrev dktX8_against_1 : List UInt8 := dkwX8_against_1 ++ dktX8_against_2
def dkwX8_against_0 : List UInt8 := [42, 180, 0, 33, 42, 27, 28, 182, 0, 56, 182, 0, 68, 3, 62, 29, 42, 180, 0, 36, 163, 0, 78, 42]
abbrev dktX8_against_0 : List UInt8 := dkwX8_against_0 ++ dktX8_against_1
theorem dksX8_against_0 : cX8_against.data.toList.drop 0 = dktX8_against_0 := by decide +kernel
theorem dksX8_against_1 : cX8_against.data.toList.drop 24 = dktX8_against_1 := dk_seg dksX8_against_0 24 rfl rfl
theorem dksX8_against_2 : cX8_against.data.toList.drop 48 = dktX8_against_2 := dk_seg dksX8_against_1 24 rfl rfl
theorem dksX8_against_3 : cX8_against.data.toList.drop 72 = dktX8_against_3 := dk_seg dksX8_against_2 24 rfl rfl
theorem dksX8_against_4 : cX8_against.data.toList.drop 95 = dktX8_against_4 := dk_seg dksX8_against_3 23 rfl rfl
theorem dX8_against_0 : decode cX8_against 0 = .ok (.aload_n 0, 1) := dk_42 (dk_at dksX8_against_0 0 rfl rfl)
theorem dX8_against_1 : decode cX8_against 1 = .ok (.getfield 33, 3) := dk_180 0 33 (dk_at dksX8_against_0 1 rfl rfl)
theorem dX8_against_4 : decode cX8_against 4 = .ok (.aload_n 0, 1) := dk_42 (dk_at dksX8_against_0 4 rfl rfl)
theorem dX8_against_5 : decode cX8_against 5 = .ok (.iload_n 1, 1) := dk_27 (dk_at dksX8_against_0 5 rfl rfl)
theorem dX8_against_6 : decode cX8_against 6 = .ok (.iload_n 2, 1) := dk_28 (dk_at dksX8_against_0 6 rfl rfl)
theorem dX8_against_7 : decode cX8_against 7 = .ok (.invokevirtual 56, 3) := dk_182 0 56 (dk_at dksX8_against_0 7 rfl rfl)
theorem dX8_against_10 : decode cX8_against 10 = .ok (.invokevirtual 68, 3) := dk_182 0 68 (dk_at dksX8_against_0 10 rfl rfl)
theorem dX8_against_13 : decode cX8_against 13 = .ok (.iconst 0, 1) := dk_3 (dk_at dksX8_against_0 13 rfl rfl)
theorem dX8_against_14 : decode cX8_against 14 = .ok (.istore_n 3, 1) := dk_62 (dk_at dksX8_against_0 14 rfl rfl)
theorem dX8_against_15 : decode cX8_against 15 = .ok (.iload_n 3, 1) := dk_29 (dk_at dksX8_against_0 15 rfl rfl)
theorem dX8_against_16 : decode cX8_against 16 = .ok (.aload_n 0, 1) := dk_42 (dk_at dksX8_against_0 16 rfl rfl)
theorem dX8_against_17 : decode cX8_against 17 = .ok (.getfield 36, 3) := dk_180 0 36 (dk_at dksX8_against_0 17 rfl rfl)
theorem dX8_against_20 : decode cX8_against 20 = .ok (.if_icmp .gt 78, 3) := dk_163 0 78 (dk_at dksX8_against_0 20 rfl rfl)
theorem dX8_against_23 : decode cX8_against 23 = .ok (.aload_n 0, 1) := dk_42 (dk_at dksX8_against_0 23 rfl rfl)
theorem dX8_against_24 : decode cX8_against 24 = .ok (.getfield 10, 3) := dk_180 0 10 (dk_at dksX8_against_1 0 rfl rfl)
theorem dX8_against_27 : decode cX8_against 27 = .ok (.aload_n 0, 1) := dk_42 (dk_at dksX8_against_1 3 rfl rfl)
theorem dX8_against_28 : decode cX8_against 28 = .ok (.iload_n 1, 1) := dk_27 (dk_at dksX8_against_1 4 rfl rfl)
theorem dX8_against_29 : decode cX8_against 29 = .ok (.iload_n 3, 1) := dk_29 (dk_at dksX8_against_1 5 rfl rfl)
theorem dX8_against_30 : decode cX8_against 30 = .ok (.invokevirtual 56, 3) := dk_182 0 56 (dk_at dksX8_against_1 6 rfl rfl)
theorem dX8_against_33 : decode cX8_against 33 = .ok (.aload_n 0, 1) := dk_42 (dk_at dksX8_against_1 9 rfl rfl)
theorem dX8_against_34 : decode cX8_against 34 = .ok (.getfield 27, 3) := dk_180 0 27 (dk_at dksX8_against_1 10 rfl rfl)
theorem dX8_against_37 : decode cX8_against 37 = .ok (.aload_n 0, 1) := dk_42 (dk_at dksX8_against_1 13 rfl rfl)
theorem dX8_against_38 : decode cX8_against 38 = .ok (.getfield 33, 3) := dk_180 0 33 (dk_at dksX8_against_1 14 rfl rfl)
theorem dX8_against_41 : decode cX8_against 41 = .ok (.aload_n 0, 1) := dk_42 (dk_at dksX8_against_1 17 rfl rfl)
theorem dX8_against_42 : decode cX8_against 42 = .ok (.iload_n 2, 1) := dk_28 (dk_at dksX8_against_1 18 rfl rfl)
theorem dX8_against_43 : decode cX8_against 43 = .ok (.iload_n 3, 1) := dk_29 (dk_at dksX8_against_1 19 rfl rfl)
theorem dX8_against_44 : decode cX8_against 44 = .ok (.invokevirtual 56, 3) := dk_182 0 56 (dk_at dksX8_against_1 20 rfl rfl)
theorem dX8_against_47 : decode cX8_against 47 = .ok (.aload_n 0, 1) := dk_42 (dk_at dksX8_against_1 23 rfl rfl)
theorem dX8_against_48 : decode cX8_against 48 = .ok (.getfield 30, 3) := dk_180 0 30 (dk_at dksX8_against_2 0 rfl rfl)
theorem dX8_against_51 : decode cX8_against 51 = .ok (.invokevirtual 75, 3) := dk_182 0 75 (dk_at dksX8_against_2 3 rfl rfl)
theorem dX8_against_54 : decode cX8_against 54 = .ok (.aload_n 0, 1) := dk_42 (dk_at dksX8_against_2 6 rfl rfl)
theorem dX8_against_55 : decode cX8_against 55 = .ok (.getfield 30, 3) := dk_180 0 30 (dk_at dksX8_against_2 7 rfl rfl)
theorem dX8_against_58 : decode cX8_against 58 = .ok (.invokevirtual 52, 3) := dk_182 0 52 (dk_at dksX8_against_2 10 rfl rfl)
theorem dX8_against_61 : decode cX8_against 61 = .ok (.ifCond .ne 18, 3) := dk_154 0 18 (dk_at dksX8_against_2 13 rfl rfl)
theorem dX8_against_64 : decode cX8_against 64 = .ok (.aload_n 0, 1) := dk_42 (dk_at dksX8_against_2 16 rfl rfl)
theorem dX8_against_65 : decode cX8_against 65 = .ok (.getfield 10, 3) := dk_180 0 10 (dk_at dksX8_against_2 17 rfl rfl)
theorem dX8_against_68 : decode cX8_against 68 = .ok (.aload_n 0, 1) := dk_42 (dk_at dksX8_against_2 20 rfl rfl)
theorem dX8_against_69 : decode cX8_against 69 = .ok (.getfield 30, 3) := dk_180 0 30 (dk_at dksX8_against_2 21 rfl rfl)
theorem dX8_against_72 : decode cX8_against 72 = .ok (.aload_n 0, 1) := dk_42 (dk_at dksX8_against_3 0 rfl rfl)
theorem dX8_against_73 : decode cX8_against 73 = .ok (.getfield 23, 3) := dk_180 0 23 (dk_at dksX8_against_3 1 rfl rfl)
theorem dX8_against_76 : decode cX8_against 76 = .ok (.invokevirtual 79, 3) := dk_182 0 79 (dk_at dksX8_against_3 4 rfl rfl)
theorem dX8_against_79 : decode cX8_against 79 = .ok (.aload_n 0, 1) := dk_42 (dk_at dksX8_against_3 7 rfl rfl)
theorem dX8_against_80 : decode cX8_against 80 = .ok (.iload_n 1, 1) := dk_27 (dk_at dksX8_against_3 8 rfl rfl)
theorem dX8_against_81 : decode cX8_against 81 = .ok (.iload_n 3, 1) := dk_29 (dk_at dksX8_against_3 9 rfl rfl)
theorem dX8_against_82 : decode cX8_against 82 = .ok (.invokevirtual 56, 3) := dk_182 0 56 (dk_at dksX8_against_3 10 rfl rfl)
theorem dX8_against_85 : decode cX8_against 85 = .ok (.aload_n 0, 1) := dk_42 (dk_at dksX8_against_3 13 rfl rfl)
theorem dX8_against_86 : decode cX8_against 86 = .ok (.getfield 30, 3) := dk_180 0 30 (dk_at dksX8_against_3 14 rfl rfl)
theorem dX8_against_89 : decode cX8_against 89 = .ok (.invokevirtual 68, 3) := dk_182 0 68 (dk_at dksX8_against_3 17 rfl rfl)
theorem dX8_against_92 : decode cX8_against 92 = .ok (.iinc 3 1, 3) := dk_132 3 1 (dk_at dksX8_against_3 20 rfl rfl)
theorem dX8_against_95 : decode cX8_against 95 = .ok (.goto (-80), 3) := dk_167 255 176 (dk_at dksX8_against_4 0 rfl rfl)
theorem dX8_against_98 : decode cX8_against 98 = .ok (.return_, 1) := dk_177 (dk_at dksX8_against_4 3 rfl rfl)
abbrev cX8_under : ByteArray := prog_45_method_8_code
def yX8_under : MethodName := ⟨RX8, "under", "()LWasteHouse$ShareSolve$Whole;"⟩
theorem dX8_under_0 : decode cX8_under 0 = .ok (.aload_n 0, 1) := by decide +kernel
theorem dX8_under_1 : decode cX8_under 1 = .ok (.getfield 23, 3) := by decide +kernel
theorem dX8_under_4 : decode cX8_under 4 = .ok (.areturn, 1) := by decide +kernel
theorem q405 : (Jvm.Cond.initialized "WasteHouse$ShareSolve$Square") ∈ lw_all := lw_g (lw_at lw_m1 13 rfl) rfl
theorem q711 : (Jvm.Cond.instantiable "WasteHouse$ShareSolve$Square" (7 : Nat)) ∈ lw_all := lw_g (lw_at lw_m2 79 rfl) rfl
theorem q713 : (Jvm.Cond.instanceMethod ({ cls := "WasteHouse$ShareSolve$Square", name := "<init>", desc := "()V" } : Jvm.MethodName)) ∈ lw_all := lw_g (lw_at lw_m2 81 rfl) rfl
theorem q714 : (Jvm.Cond.code ({ cls := "WasteHouse$ShareSolve$Square", name := "<init>", desc := "()V" } : Jvm.MethodName) prog_45_method_1_code (2 : Nat) (Option.none : Option Jvm.ClassFile.FieldType)) ∈ lw_all := lw_g (lw_at lw_m2 82 rfl) rfl
theorem q715 : (Jvm.Cond.methodLink "WasteHouse$ShareSolve$Square" (1 : Nat) ({ cls := "java/lang/Object", name := "<init>", desc := "()V" } : Jvm.MethodName)) ∈ lw_all := lw_g (lw_at lw_m2 83 rfl) rfl
theorem q716 : (Jvm.Cond.classLink "WasteHouse$ShareSolve$Square" (7 : Nat) "WasteHouse$ShareSolve$Reckoner") ∈ lw_all := lw_g (lw_at lw_m2 84 rfl) rfl
theorem q718 : (Jvm.Cond.methodLinkNest "WasteHouse$ShareSolve$Square" (9 : Nat) ({ cls := "WasteHouse$ShareSolve$Reckoner", name := "<init>", desc := "()V" } : Jvm.MethodName) "WasteHouse") ∈ lw_tbl := lw_at lw_m2 86 rfl
theorem q735 : (Jvm.Cond.fieldLink "WasteHouse$ShareSolve$Square" (48 : Nat) "WasteHouse$ShareSolve$Whole" "negative" "Z") ∈ lw_all := lw_g (lw_at lw_m2 103 rfl) rfl
theorem q758 : (Jvm.Cond.classLink "WasteHouse$ShareSolve$Square" (16 : Nat) "WasteHouse$ShareSolve$Whole") ∈ lw_all := lw_g (lw_at lw_m2 126 rfl) rfl
theorem q760 : (Jvm.Cond.methodLinkNest "WasteHouse$ShareSolve$Square" (22 : Nat) ({ cls := "WasteHouse$ShareSolve$Whole", name := "<init>", desc := "()V" } : Jvm.MethodName) "WasteHouse") ∈ lw_tbl := lw_at lw_m2 128 rfl
theorem q761 : (Jvm.Cond.fieldLink "WasteHouse$ShareSolve$Square" (10 : Nat) "WasteHouse$ShareSolve$Square" "reckoner" "LWasteHouse$ShareSolve$Reckoner;") ∈ lw_all := lw_g (lw_at lw_m2 129 rfl) rfl
theorem q762 : (Jvm.Cond.fieldLink "WasteHouse$ShareSolve$Square" (18 : Nat) "WasteHouse$ShareSolve$Square" "cells" "[LWasteHouse$ShareSolve$Whole;") ∈ lw_all := lw_g (lw_at lw_m2 130 rfl) rfl
theorem q763 : (Jvm.Cond.fieldLink "WasteHouse$ShareSolve$Square" (23 : Nat) "WasteHouse$ShareSolve$Square" "before" "LWasteHouse$ShareSolve$Whole;") ∈ lw_all := lw_g (lw_at lw_m2 131 rfl) rfl
theorem q764 : (Jvm.Cond.fieldLink "WasteHouse$ShareSolve$Square" (27 : Nat) "WasteHouse$ShareSolve$Square" "pivot" "LWasteHouse$ShareSolve$Whole;") ∈ lw_all := lw_g (lw_at lw_m2 132 rfl) rfl
theorem q765 : (Jvm.Cond.fieldLink "WasteHouse$ShareSolve$Square" (30 : Nat) "WasteHouse$ShareSolve$Square" "made" "LWasteHouse$ShareSolve$Whole;") ∈ lw_all := lw_g (lw_at lw_m2 133 rfl) rfl
theorem q766 : (Jvm.Cond.fieldLink "WasteHouse$ShareSolve$Square" (33 : Nat) "WasteHouse$ShareSolve$Square" "by" "LWasteHouse$ShareSolve$Whole;") ∈ lw_all := lw_g (lw_at lw_m2 134 rfl) rfl
theorem q767 : (Jvm.Cond.fieldLink "WasteHouse$ShareSolve$Square" (36 : Nat) "WasteHouse$ShareSolve$Square" "size" "I") ∈ lw_all := lw_g (lw_at lw_m2 135 rfl) rfl
theorem q768 : (Jvm.Cond.laysFinal "WasteHouse$ShareSolve$Square" "WasteHouse$ShareSolve$Square" "reckoner" "LWasteHouse$ShareSolve$Reckoner;") ∈ lw_all := lw_g (lw_at lw_m2 136 rfl) rfl
theorem q769 : (Jvm.Cond.soleField "WasteHouse$ShareSolve$Square" "reckoner") ∈ lw_all := lw_g (lw_at lw_m2 137 rfl) rfl
theorem q770 : (Jvm.Cond.laysFinal "WasteHouse$ShareSolve$Square" "WasteHouse$ShareSolve$Square" "cells" "[LWasteHouse$ShareSolve$Whole;") ∈ lw_all := lw_g (lw_at lw_m2 138 rfl) rfl
theorem q771 : (Jvm.Cond.soleField "WasteHouse$ShareSolve$Square" "cells") ∈ lw_all := lw_g (lw_at lw_m2 139 rfl) rfl
theorem q772 : (Jvm.Cond.laysFinal "WasteHouse$ShareSolve$Square" "WasteHouse$ShareSolve$Square" "before" "LWasteHouse$ShareSolve$Whole;") ∈ lw_all := lw_g (lw_at lw_m2 140 rfl) rfl
theorem q773 : (Jvm.Cond.soleField "WasteHouse$ShareSolve$Square" "before") ∈ lw_all := lw_g (lw_at lw_m2 141 rfl) rfl
theorem q774 : (Jvm.Cond.laysFinal "WasteHouse$ShareSolve$Square" "WasteHouse$ShareSolve$Square" "pivot" "LWasteHouse$ShareSolve$Whole;") ∈ lw_all := lw_g (lw_at lw_m2 142 rfl) rfl
theorem q775 : (Jvm.Cond.soleField "WasteHouse$ShareSolve$Square" "pivot") ∈ lw_all := lw_g (lw_at lw_m2 143 rfl) rfl
theorem q776 : (Jvm.Cond.laysFinal "WasteHouse$ShareSolve$Square" "WasteHouse$ShareSolve$Square" "made" "LWasteHouse$ShareSolve$Whole;") ∈ lw_all := lw_g (lw_at lw_m2 144 rfl) rfl
theorem q777 : (Jvm.Cond.soleField "WasteHouse$ShareSolve$Square" "made") ∈ lw_all := lw_g (lw_at lw_m2 145 rfl) rfl
theorem q778 : (Jvm.Cond.laysFinal "WasteHouse$ShareSolve$Square" "WasteHouse$ShareSolve$Square" "by" "LWasteHouse$ShareSolve$Whole;") ∈ lw_all := lw_g (lw_at lw_m2 146 rfl) rfl
theorem q779 : (Jvm.Cond.soleField "WasteHouse$ShareSolve$Square" "by") ∈ lw_all := lw_g (lw_at lw_m2 147 rfl) rfl
theorem q780 : (Jvm.Cond.lays "WasteHouse$ShareSolve$Square" "WasteHouse$ShareSolve$Square" "size" "I") ∈ lw_all := lw_g (lw_at lw_m2 148 rfl) rfl
theorem q781 : (Jvm.Cond.soleField "WasteHouse$ShareSolve$Square" "size") ∈ lw_all := lw_g (lw_at lw_m2 149 rfl) rfl
theorem q782 : (Jvm.Cond.superclass "WasteHouse$ShareSolve$Square" "java/lang/Object") ∈ lw_all := lw_g (lw_at lw_m2 150 rfl) rfl
theorem q2014 : (Jvm.Cond.selects "WasteHouse$ShareSolve$Square" ({ cls := "java/lang/Object", name := "getClass", desc := "()Ljava/lang/Class;" } : Jvm.MethodName) ({ cls := "java/lang/Object", name := "getClass", desc := "()Ljava/lang/Class;" } : Jvm.MethodName)) ∈ lw_all := lw_g (lw_at lw_m7 182 rfl) rfl
theorem q3124 : (Jvm.Cond.selects "WasteHouse$ShareSolve$Square" ({ cls := "java/lang/Object", name := "equals", desc := "(Ljava/lang/Object;)Z" } : Jvm.MethodName) ({ cls := "java/lang/Object", name := "equals", desc := "(Ljava/lang/Object;)Z" } : Jvm.MethodName)) ∈ lw_all := lw_g (lw_at lw_m12 92 rfl) rfl
theorem q3642 : (Jvm.Cond.selects "WasteHouse$ShareSolve$Square" ({ cls := "java/lang/Object", name := "hashCode", desc := "()I" } : Jvm.MethodName) ({ cls := "java/lang/Object", name := "hashCode", desc := "()I" } : Jvm.MethodName)) ∈ lw_all := lw_g (lw_at lw_m14 130 rfl) rfl
theorem q5265 : (Jvm.Cond.instanceMethod ({ cls := "WasteHouse$ShareSolve$Square", name := "begin", desc := "(I)V" } : Jvm.MethodName)) ∈ lw_all := lw_g (lw_at lw_m21 73 rfl) rfl
theorem q5266 : (Jvm.Cond.selects "WasteHouse$ShareSolve$Square" ({ cls := "WasteHouse$ShareSolve$Square", name := "begin", desc := "(I)V" } : Jvm.MethodName) ({ cls := "WasteHouse$ShareSolve$Square", name := "begin", desc := "(I)V" } : Jvm.MethodName)) ∈ lw_all := lw_g (lw_at lw_m21 74 rfl) rfl
theorem q5267 : (Jvm.Cond.code ({ cls := "WasteHouse$ShareSolve$Square", name := "begin", desc := "(I)V" } : Jvm.MethodName) prog_45_method_2_code (3 : Nat) (Option.none : Option Jvm.ClassFile.FieldType)) ∈ lw_all := lw_g (lw_at lw_m21 75 rfl) rfl
theorem q5268 : (Jvm.Cond.methodLink "WasteHouse$ShareSolve$Square" (40 : Nat) ({ cls := "WasteHouse$ShareSolve$Whole", name := "set", desc := "(I)V" } : Jvm.MethodName)) ∈ lw_all := lw_g (lw_at lw_m21 76 rfl) rfl
theorem q5270 : (Jvm.Cond.instanceMethod ({ cls := "WasteHouse$ShareSolve$Square", name := "add", desc := "(IIII)V" } : Jvm.MethodName)) ∈ lw_all := lw_g (lw_at lw_m21 78 rfl) rfl
theorem q5271 : (Jvm.Cond.selects "WasteHouse$ShareSolve$Square" ({ cls := "WasteHouse$ShareSolve$Square", name := "add", desc := "(IIII)V" } : Jvm.MethodName) ({ cls := "WasteHouse$ShareSolve$Square", name := "add", desc := "(IIII)V" } : Jvm.MethodName)) ∈ lw_all := lw_g (lw_at lw_m21 79 rfl) rfl
theorem q5272 : (Jvm.Cond.code ({ cls := "WasteHouse$ShareSolve$Square", name := "add", desc := "(IIII)V" } : Jvm.MethodName) prog_45_method_4_code (5 : Nat) (Option.none : Option Jvm.ClassFile.FieldType)) ∈ lw_all := lw_g (lw_at lw_m21 80 rfl) rfl
theorem q5273 : (Jvm.Cond.methodLink "WasteHouse$ShareSolve$Square" (44 : Nat) ({ cls := "WasteHouse$ShareSolve$Reckoner", name := "multiply", desc := "(LWasteHouse$ShareSolve$Whole;LWasteHouse$ShareSolve$Whole;LWasteHouse$ShareSolve$Whole;)V" } : Jvm.MethodName)) ∈ lw_all := lw_g (lw_at lw_m21 81 rfl) rfl
theorem q5281 : (Jvm.Cond.methodLink "WasteHouse$ShareSolve$Square" (52 : Nat) ({ cls := "WasteHouse$ShareSolve$Whole", name := "isZero", desc := "()Z" } : Jvm.MethodName)) ∈ lw_all := lw_g (lw_at lw_m21 89 rfl) rfl
theorem q5285 : (Jvm.Cond.methodLink "WasteHouse$ShareSolve$Square" (56 : Nat) ({ cls := "WasteHouse$ShareSolve$Square", name := "at", desc := "(II)LWasteHouse$ShareSolve$Whole;" } : Jvm.MethodName)) ∈ lw_all := lw_g (lw_at lw_m21 93 rfl) rfl
theorem q5286 : (Jvm.Cond.instanceMethod ({ cls := "WasteHouse$ShareSolve$Square", name := "at", desc := "(II)LWasteHouse$ShareSolve$Whole;" } : Jvm.MethodName)) ∈ lw_all := lw_g (lw_at lw_m21 94 rfl) rfl
theorem q5287 : (Jvm.Cond.selects "WasteHouse$ShareSolve$Square" ({ cls := "WasteHouse$ShareSolve$Square", name := "at", desc := "(II)LWasteHouse$ShareSolve$Whole;" } : Jvm.MethodName) ({ cls := "WasteHouse$ShareSolve$Square", name := "at", desc := "(II)LWasteHouse$ShareSolve$Whole;" } : Jvm.MethodName)) ∈ lw_all := lw_g (lw_at lw_m21 95 rfl) rfl
theorem q5288 : (Jvm.Cond.code ({ cls := "WasteHouse$ShareSolve$Square", name := "at", desc := "(II)LWasteHouse$ShareSolve$Whole;" } : Jvm.MethodName) prog_45_method_3_code (3 : Nat) (Option.some (Jvm.ClassFile.FieldType.object "WasteHouse$ShareSolve$Whole"))) ∈ lw_all := lw_g (lw_at lw_m21 96 rfl) rfl
theorem q5289 : (Jvm.Cond.methodLink "WasteHouse$ShareSolve$Square" (60 : Nat) ({ cls := "WasteHouse$ShareSolve$Reckoner", name := "subtract", desc := "(LWasteHouse$ShareSolve$Whole;LWasteHouse$ShareSolve$Whole;)V" } : Jvm.MethodName)) ∈ lw_all := lw_g (lw_at lw_m21 97 rfl) rfl
theorem q5316 : (Jvm.Cond.instanceMethod ({ cls := "WasteHouse$ShareSolve$Square", name := "solve", desc := "()Z" } : Jvm.MethodName)) ∈ lw_all := lw_g (lw_at lw_m21 124 rfl) rfl
theorem q5317 : (Jvm.Cond.selects "WasteHouse$ShareSolve$Square" ({ cls := "WasteHouse$ShareSolve$Square", name := "solve", desc := "()Z" } : Jvm.MethodName) ({ cls := "WasteHouse$ShareSolve$Square", name := "solve", desc := "()Z" } : Jvm.MethodName)) ∈ lw_all := lw_g (lw_at lw_m21 125 rfl) rfl
theorem q5318 : (Jvm.Cond.code ({ cls := "WasteHouse$ShareSolve$Square", name := "solve", desc := "()Z" } : Jvm.MethodName) prog_45_method_5_code (4 : Nat) (Option.some Jvm.ClassFile.FieldType.boolean)) ∈ lw_all := lw_g (lw_at lw_m21 126 rfl) rfl
theorem q5319 : (Jvm.Cond.methodLink "WasteHouse$ShareSolve$Square" (64 : Nat) ({ cls := "WasteHouse$ShareSolve$Square", name := "swap", desc := "(II)V" } : Jvm.MethodName)) ∈ lw_all := lw_g (lw_at lw_m21 127 rfl) rfl
theorem q5320 : (Jvm.Cond.privateMethod ({ cls := "WasteHouse$ShareSolve$Square", name := "swap", desc := "(II)V" } : Jvm.MethodName)) ∈ lw_tbl := lw_at lw_m21 128 rfl
theorem q5321 : (Jvm.Cond.instanceMethod ({ cls := "WasteHouse$ShareSolve$Square", name := "swap", desc := "(II)V" } : Jvm.MethodName)) ∈ lw_all := lw_g (lw_at lw_m21 129 rfl) rfl
theorem q5322 : (Jvm.Cond.code ({ cls := "WasteHouse$ShareSolve$Square", name := "swap", desc := "(II)V" } : Jvm.MethodName) prog_45_method_6_code (4 : Nat) (Option.none : Option Jvm.ClassFile.FieldType)) ∈ lw_all := lw_g (lw_at lw_m21 130 rfl) rfl
theorem q5323 : (Jvm.Cond.methodLink "WasteHouse$ShareSolve$Square" (68 : Nat) ({ cls := "WasteHouse$ShareSolve$Whole", name := "copy", desc := "(LWasteHouse$ShareSolve$Whole;)V" } : Jvm.MethodName)) ∈ lw_all := lw_g (lw_at lw_m21 131 rfl) rfl
theorem q5324 : (Jvm.Cond.methodLink "WasteHouse$ShareSolve$Square" (72 : Nat) ({ cls := "WasteHouse$ShareSolve$Square", name := "against", desc := "(II)V" } : Jvm.MethodName)) ∈ lw_all := lw_g (lw_at lw_m21 132 rfl) rfl
theorem q5325 : (Jvm.Cond.privateMethod ({ cls := "WasteHouse$ShareSolve$Square", name := "against", desc := "(II)V" } : Jvm.MethodName)) ∈ lw_tbl := lw_at lw_m21 133 rfl
theorem q5326 : (Jvm.Cond.instanceMethod ({ cls := "WasteHouse$ShareSolve$Square", name := "against", desc := "(II)V" } : Jvm.MethodName)) ∈ lw_all := lw_g (lw_at lw_m21 134 rfl) rfl
theorem q5327 : (Jvm.Cond.code ({ cls := "WasteHouse$ShareSolve$Square", name := "against", desc := "(II)V" } : Jvm.MethodName) prog_45_method_7_code (4 : Nat) (Option.none : Option Jvm.ClassFile.FieldType)) ∈ lw_all := lw_g (lw_at lw_m21 135 rfl) rfl
theorem q5328 : (Jvm.Cond.methodLink "WasteHouse$ShareSolve$Square" (75 : Nat) ({ cls := "WasteHouse$ShareSolve$Reckoner", name := "cross", desc := "(LWasteHouse$ShareSolve$Whole;LWasteHouse$ShareSolve$Whole;LWasteHouse$ShareSolve$Whole;LWasteHouse$ShareSolve$Whole;LWasteHouse$ShareSolve$Whole;)V" } : Jvm.MethodName)) ∈ lw_all := lw_g (lw_at lw_m21 136 rfl) rfl
theorem q5334 : (Jvm.Cond.methodLink "WasteHouse$ShareSolve$Square" (79 : Nat) ({ cls := "WasteHouse$ShareSolve$Reckoner", name := "exact", desc := "(LWasteHouse$ShareSolve$Whole;LWasteHouse$ShareSolve$Whole;)V" } : Jvm.MethodName)) ∈ lw_all := lw_g (lw_at lw_m21 142 rfl) rfl
theorem q5360 : (Jvm.Cond.instanceMethod ({ cls := "WasteHouse$ShareSolve$Square", name := "under", desc := "()LWasteHouse$ShareSolve$Whole;" } : Jvm.MethodName)) ∈ lw_all := lw_g (lw_at lw_m21 168 rfl) rfl
theorem q5361 : (Jvm.Cond.selects "WasteHouse$ShareSolve$Square" ({ cls := "WasteHouse$ShareSolve$Square", name := "under", desc := "()LWasteHouse$ShareSolve$Whole;" } : Jvm.MethodName) ({ cls := "WasteHouse$ShareSolve$Square", name := "under", desc := "()LWasteHouse$ShareSolve$Whole;" } : Jvm.MethodName)) ∈ lw_all := lw_g (lw_at lw_m21 169 rfl) rfl
theorem q5362 : (Jvm.Cond.code ({ cls := "WasteHouse$ShareSolve$Square", name := "under", desc := "()LWasteHouse$ShareSolve$Whole;" } : Jvm.MethodName) prog_45_method_8_code (1 : Nat) (Option.some (Jvm.ClassFile.FieldType.object "WasteHouse$ShareSolve$Whole"))) ∈ lw_all := lw_g (lw_at lw_m21 170 rfl) rfl
theorem q9639 : (Jvm.Cond.castable "WasteHouse$ShareSolve$Square" "java/lang/Object") ∈ lw_tbl := lw_at lw_m39 127 rfl
theorem in_X8 : ∀ w ∈ wsX80, w ∈ lw_all := lw_in wsX80 [768, 770, 772, 774, 776, 778, 780] (by decide +kernel) (by decide +kernel)
