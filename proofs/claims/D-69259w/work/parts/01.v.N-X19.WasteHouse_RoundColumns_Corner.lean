/-! WasteHouse$RoundColumns$Corner -/
set_option maxRecDepth 100000
def RX19 : String := "WasteHouse$RoundColumns$Corner"
def TX19 : u_T := fun k => match k with
  | 0 => ("WasteHouse$RoundColumns$Corner", "cells", "[J", true)
  | 1 => ("WasteHouse$RoundColumns$Corner", "atRow", "[I", true)
  | 2 => ("WasteHouse$RoundColumns$Corner", "atColumn", "[I", true)
  | 3 => ("WasteHouse$RoundColumns$Corner", "rows", "I", false)
  | 4 => ("WasteHouse$RoundColumns$Corner", "columns", "I", false)
  | _ => ("WasteHouse$RoundColumns$Corner", "under", "J", false)
def tyX19 : Nat → FieldType := fun k => match k with
  | 0 => .array .long
  | 1 => .array .int
  | 2 => .array .int
  | 3 => .int
  | 4 => .int
  | _ => .long
abbrev wsX190 : List Cond := u_ws RX19 TX19 6
theorem nmX19 : ∀ a, a < 6 → ∀ b, b < 6 → a ≠ b → (TX19 a).2.1 ≠ (TX19 b).2.1 := by decide +kernel
theorem tyX19_ok : ∀ k, k < 6 → parseFieldDescriptor (TX19 k).2.2.1 = some (tyX19 k) := by decide +kernel
abbrev cX19_init : ByteArray := prog_37_method_1_code
def yX19_init : MethodName := ⟨RX19, "<init>", "()V"⟩
def dkwX19_init_1 : List UInt8 := [188, 10, 181, 0, 19, 177]
abbrev dktX19_init_1 : List UInt8 := dkwX19_init_1 ++ []
def dkwX19_init_0 : List UInt8 := [42, 183, 0, 3, 42, 17, 4, 164, 188, 11, 181, 0, 9, 42, 16, 18, 188, 10, 181, 0, 15, 42, 16, 66]
abbrev dktX19_init_0 : List UInt8 := dkwX19_init_0 ++ dktX19_init_1
theorem dksX19_init_0 : cX19_init.data.toList.drop 0 = dktX19_init_0 := by decide +kernel
theorem dksX19_init_1 : cX19_init.data.toList.drop 24 = dktX19_init_1 := dk_seg dksX19_init_0 24 rfl rfl
theorem dX19_init_0 : decode cX19_init 0 = .ok (.aload_n 0, 1) := dk_42 (dk_at dksX19_init_0 0 rfl rfl)
theorem dX19_init_1 : decode cX19_init 1 = .ok (.invokespecial 3, 3) := dk_183 0 3 (dk_at dksX19_init_0 1 rfl rfl)
theorem dX19_init_4 : decode cX19_init 4 = .ok (.aload_n 0, 1) := dk_42 (dk_at dksX19_init_0 4 rfl rfl)
theorem dX19_init_5 : decode cX19_init 5 = .ok (.sipush 1188, 3) := dk_17 4 164 (dk_at dksX19_init_0 5 rfl rfl)
theorem dX19_init_8 : decode cX19_init 8 = .ok (.newarray .long, 2) := dk_188_11 (dk_at dksX19_init_0 8 rfl rfl)
theorem dX19_init_10 : decode cX19_init 10 = .ok (.putfield 9, 3) := dk_181 0 9 (dk_at dksX19_init_0 10 rfl rfl)
theorem dX19_init_13 : decode cX19_init 13 = .ok (.aload_n 0, 1) := dk_42 (dk_at dksX19_init_0 13 rfl rfl)
theorem dX19_init_14 : decode cX19_init 14 = .ok (.bipush 18, 2) := dk_16 18 (dk_at dksX19_init_0 14 rfl rfl)
theorem dX19_init_16 : decode cX19_init 16 = .ok (.newarray .int, 2) := dk_188_10 (dk_at dksX19_init_0 16 rfl rfl)
theorem dX19_init_18 : decode cX19_init 18 = .ok (.putfield 15, 3) := dk_181 0 15 (dk_at dksX19_init_0 18 rfl rfl)
theorem dX19_init_21 : decode cX19_init 21 = .ok (.aload_n 0, 1) := dk_42 (dk_at dksX19_init_0 21 rfl rfl)
theorem dX19_init_22 : decode cX19_init 22 = .ok (.bipush 66, 2) := dk_16 66 (dk_at dksX19_init_0 22 rfl rfl)
theorem dX19_init_24 : decode cX19_init 24 = .ok (.newarray .int, 2) := dk_188_10 (dk_at dksX19_init_1 0 rfl rfl)
theorem dX19_init_26 : decode cX19_init 26 = .ok (.putfield 19, 3) := dk_181 0 19 (dk_at dksX19_init_1 2 rfl rfl)
theorem dX19_init_29 : decode cX19_init 29 = .ok (.return_, 1) := dk_177 (dk_at dksX19_init_1 5 rfl rfl)
abbrev cX19_begin : ByteArray := prog_37_method_2_code
def yX19_begin : MethodName := ⟨RX19, "begin", "(I)V"⟩
def dkwX19_begin_0 : List UInt8 := [42, 27, 4, 96, 181, 0, 22, 42, 3, 181, 0, 26, 42, 10, 181, 0, 29, 177]
abbrev dktX19_begin_0 : List UInt8 := dkwX19_begin_0 ++ []
theorem dksX19_begin_0 : cX19_begin.data.toList.drop 0 = dktX19_begin_0 := by decide +kernel
theorem dX19_begin_0 : decode cX19_begin 0 = .ok (.aload_n 0, 1) := dk_42 (dk_at dksX19_begin_0 0 rfl rfl)
theorem dX19_begin_1 : decode cX19_begin 1 = .ok (.iload_n 1, 1) := dk_27 (dk_at dksX19_begin_0 1 rfl rfl)
theorem dX19_begin_2 : decode cX19_begin 2 = .ok (.iconst 1, 1) := dk_4 (dk_at dksX19_begin_0 2 rfl rfl)
theorem dX19_begin_3 : decode cX19_begin 3 = .ok (.iadd, 1) := dk_96 (dk_at dksX19_begin_0 3 rfl rfl)
theorem dX19_begin_4 : decode cX19_begin 4 = .ok (.putfield 22, 3) := dk_181 0 22 (dk_at dksX19_begin_0 4 rfl rfl)
theorem dX19_begin_7 : decode cX19_begin 7 = .ok (.aload_n 0, 1) := dk_42 (dk_at dksX19_begin_0 7 rfl rfl)
theorem dX19_begin_8 : decode cX19_begin 8 = .ok (.iconst 0, 1) := dk_3 (dk_at dksX19_begin_0 8 rfl rfl)
theorem dX19_begin_9 : decode cX19_begin 9 = .ok (.putfield 26, 3) := dk_181 0 26 (dk_at dksX19_begin_0 9 rfl rfl)
theorem dX19_begin_12 : decode cX19_begin 12 = .ok (.aload_n 0, 1) := dk_42 (dk_at dksX19_begin_0 12 rfl rfl)
theorem dX19_begin_13 : decode cX19_begin 13 = .ok (.lconst 1, 1) := dk_10 (dk_at dksX19_begin_0 13 rfl rfl)
theorem dX19_begin_14 : decode cX19_begin 14 = .ok (.putfield 29, 3) := dk_181 0 29 (dk_at dksX19_begin_0 14 rfl rfl)
theorem dX19_begin_17 : decode cX19_begin 17 = .ok (.return_, 1) := dk_177 (dk_at dksX19_begin_0 17 rfl rfl)
abbrev cX19_row : ByteArray := prog_37_method_4_code
def yX19_row : MethodName := ⟨RX19, "row", "(J)I"⟩
def dkwX19_row_2 : List UInt8 := [90, 4, 96, 181, 0, 26, 172]
abbrev dktX19_row_2 : List UInt8 := dkwX19_row_2 ++ []
def dkwX19_row_1 : List UInt8 := [132, 3, 1, 167, 255, 232, 42, 180, 0, 9, 16, 66, 42, 180, 0, 26, 104, 31, 80, 42, 89, 180, 0, 26]
abbrev dktX19_row_1 : List UInt8 := dkwX19_row_1 ++ dktX19_row_2
def dkwX19_row_0 : List UInt8 := [3, 62, 29, 16, 66, 162, 0, 24, 42, 180, 0, 9, 16, 66, 42, 180, 0, 26, 104, 29, 96, 9, 80]
abbrev dktX19_row_0 : List UInt8 := dkwX19_row_0 ++ dktX19_row_1
theorem dksX19_row_0 : cX19_row.data.toList.drop 0 = dktX19_row_0 := by decide +kernel
theorem dksX19_row_1 : cX19_row.data.toList.drop 23 = dktX19_row_1 := dk_seg dksX19_row_0 23 rfl rfl
theorem dksX19_row_2 : cX19_row.data.toList.drop 47 = dktX19_row_2 := dk_seg dksX19_row_1 24 rfl rfl
theorem dX19_row_0 : decode cX19_row 0 = .ok (.iconst 0, 1) := dk_3 (dk_at dksX19_row_0 0 rfl rfl)
theorem dX19_row_1 : decode cX19_row 1 = .ok (.istore_n 3, 1) := dk_62 (dk_at dksX19_row_0 1 rfl rfl)
theorem dX19_row_2 : decode cX19_row 2 = .ok (.iload_n 3, 1) := dk_29 (dk_at dksX19_row_0 2 rfl rfl)
theorem dX19_row_3 : decode cX19_row 3 = .ok (.bipush 66, 2) := dk_16 66 (dk_at dksX19_row_0 3 rfl rfl)
theorem dX19_row_5 : decode cX19_row 5 = .ok (.if_icmp .ge 24, 3) := dk_162 0 24 (dk_at dksX19_row_0 5 rfl rfl)
theorem dX19_row_8 : decode cX19_row 8 = .ok (.aload_n 0, 1) := dk_42 (dk_at dksX19_row_0 8 rfl rfl)
theorem dX19_row_9 : decode cX19_row 9 = .ok (.getfield 9, 3) := dk_180 0 9 (dk_at dksX19_row_0 9 rfl rfl)
theorem dX19_row_12 : decode cX19_row 12 = .ok (.bipush 66, 2) := dk_16 66 (dk_at dksX19_row_0 12 rfl rfl)
theorem dX19_row_14 : decode cX19_row 14 = .ok (.aload_n 0, 1) := dk_42 (dk_at dksX19_row_0 14 rfl rfl)
theorem dX19_row_15 : decode cX19_row 15 = .ok (.getfield 26, 3) := dk_180 0 26 (dk_at dksX19_row_0 15 rfl rfl)
theorem dX19_row_18 : decode cX19_row 18 = .ok (.imul, 1) := dk_104 (dk_at dksX19_row_0 18 rfl rfl)
theorem dX19_row_19 : decode cX19_row 19 = .ok (.iload_n 3, 1) := dk_29 (dk_at dksX19_row_0 19 rfl rfl)
theorem dX19_row_20 : decode cX19_row 20 = .ok (.iadd, 1) := dk_96 (dk_at dksX19_row_0 20 rfl rfl)
theorem dX19_row_21 : decode cX19_row 21 = .ok (.lconst 0, 1) := dk_9 (dk_at dksX19_row_0 21 rfl rfl)
theorem dX19_row_22 : decode cX19_row 22 = .ok (.lastore, 1) := dk_80 (dk_at dksX19_row_0 22 rfl rfl)
theorem dX19_row_23 : decode cX19_row 23 = .ok (.iinc 3 1, 3) := dk_132 3 1 (dk_at dksX19_row_1 0 rfl rfl)
theorem dX19_row_26 : decode cX19_row 26 = .ok (.goto (-24), 3) := dk_167 255 232 (dk_at dksX19_row_1 3 rfl rfl)
theorem dX19_row_29 : decode cX19_row 29 = .ok (.aload_n 0, 1) := dk_42 (dk_at dksX19_row_1 6 rfl rfl)
theorem dX19_row_30 : decode cX19_row 30 = .ok (.getfield 9, 3) := dk_180 0 9 (dk_at dksX19_row_1 7 rfl rfl)
theorem dX19_row_33 : decode cX19_row 33 = .ok (.bipush 66, 2) := dk_16 66 (dk_at dksX19_row_1 10 rfl rfl)
theorem dX19_row_35 : decode cX19_row 35 = .ok (.aload_n 0, 1) := dk_42 (dk_at dksX19_row_1 12 rfl rfl)
theorem dX19_row_36 : decode cX19_row 36 = .ok (.getfield 26, 3) := dk_180 0 26 (dk_at dksX19_row_1 13 rfl rfl)
theorem dX19_row_39 : decode cX19_row 39 = .ok (.imul, 1) := dk_104 (dk_at dksX19_row_1 16 rfl rfl)
theorem dX19_row_40 : decode cX19_row 40 = .ok (.lload_n 1, 1) := dk_31 (dk_at dksX19_row_1 17 rfl rfl)
theorem dX19_row_41 : decode cX19_row 41 = .ok (.lastore, 1) := dk_80 (dk_at dksX19_row_1 18 rfl rfl)
theorem dX19_row_42 : decode cX19_row 42 = .ok (.aload_n 0, 1) := dk_42 (dk_at dksX19_row_1 19 rfl rfl)
theorem dX19_row_43 : decode cX19_row 43 = .ok (.dup, 1) := dk_89 (dk_at dksX19_row_1 20 rfl rfl)
theorem dX19_row_44 : decode cX19_row 44 = .ok (.getfield 26, 3) := dk_180 0 26 (dk_at dksX19_row_1 21 rfl rfl)
theorem dX19_row_47 : decode cX19_row 47 = .ok (.dup_x1, 1) := dk_90 (dk_at dksX19_row_2 0 rfl rfl)
theorem dX19_row_48 : decode cX19_row 48 = .ok (.iconst 1, 1) := dk_4 (dk_at dksX19_row_2 1 rfl rfl)
theorem dX19_row_49 : decode cX19_row 49 = .ok (.iadd, 1) := dk_96 (dk_at dksX19_row_2 2 rfl rfl)
theorem dX19_row_50 : decode cX19_row 50 = .ok (.putfield 26, 3) := dk_181 0 26 (dk_at dksX19_row_2 3 rfl rfl)
theorem dX19_row_53 : decode cX19_row 53 = .ok (.ireturn, 1) := dk_172 (dk_at dksX19_row_2 6 rfl rfl)
abbrev cX19_set : ByteArray := prog_37_method_5_code
def yX19_set : MethodName := ⟨RX19, "set", "(IIJ)V"⟩
def dkwX19_set_0 : List UInt8 := [42, 180, 0, 9, 16, 66, 27, 104, 28, 96, 33, 80, 177]
abbrev dktX19_set_0 : List UInt8 := dkwX19_set_0 ++ []
theorem dksX19_set_0 : cX19_set.data.toList.drop 0 = dktX19_set_0 := by decide +kernel
theorem dX19_set_0 : decode cX19_set 0 = .ok (.aload_n 0, 1) := dk_42 (dk_at dksX19_set_0 0 rfl rfl)
theorem dX19_set_1 : decode cX19_set 1 = .ok (.getfield 9, 3) := dk_180 0 9 (dk_at dksX19_set_0 1 rfl rfl)
theorem dX19_set_4 : decode cX19_set 4 = .ok (.bipush 66, 2) := dk_16 66 (dk_at dksX19_set_0 4 rfl rfl)
theorem dX19_set_6 : decode cX19_set 6 = .ok (.iload_n 1, 1) := dk_27 (dk_at dksX19_set_0 6 rfl rfl)
theorem dX19_set_7 : decode cX19_set 7 = .ok (.imul, 1) := dk_104 (dk_at dksX19_set_0 7 rfl rfl)
theorem dX19_set_8 : decode cX19_set 8 = .ok (.iload_n 2, 1) := dk_28 (dk_at dksX19_set_0 8 rfl rfl)
theorem dX19_set_9 : decode cX19_set 9 = .ok (.iadd, 1) := dk_96 (dk_at dksX19_set_0 9 rfl rfl)
theorem dX19_set_10 : decode cX19_set 10 = .ok (.lload_n 3, 1) := dk_33 (dk_at dksX19_set_0 10 rfl rfl)
theorem dX19_set_11 : decode cX19_set 11 = .ok (.lastore, 1) := dk_80 (dk_at dksX19_set_0 11 rfl rfl)
theorem dX19_set_12 : decode cX19_set 12 = .ok (.return_, 1) := dk_177 (dk_at dksX19_set_0 12 rfl rfl)
abbrev cX19_solve : ByteArray := prog_37_method_7_code
def yX19_solve : MethodName := ⟨RX19, "solve", "(LWasteHouse$RoundColumns$Ratio;)V"⟩
def dkwX19_solve_3 : List UInt8 := [182, 0, 50, 43, 42, 28, 3, 182, 0, 33, 42, 180, 0, 29, 182, 0, 54, 177]
abbrev dktX19_solve_3 : List UInt8 := dkwX19_solve_3 ++ []
def dkwX19_solve_2 : List UInt8 := [29, 96, 79, 132, 3, 1, 167, 255, 234, 43, 182, 0, 41, 42, 28, 182, 0, 46, 153, 0, 23, 42, 28, 28]
abbrev dktX19_solve_2 : List UInt8 := dkwX19_solve_2 ++ dktX19_solve_3
def dkwX19_solve_1 : List UInt8 := [132, 3, 1, 167, 255, 238, 3, 62, 29, 28, 162, 0, 23, 42, 180, 0, 15, 29, 42, 180, 0, 22, 4, 96]
abbrev dktX19_solve_1 : List UInt8 := dkwX19_solve_1 ++ dktX19_solve_2
def dkwX19_solve_0 : List UInt8 := [42, 180, 0, 26, 4, 100, 61, 4, 62, 29, 42, 180, 0, 22, 162, 0, 16, 42, 180, 0, 19, 29, 29, 79]
abbrev dktX19_solve_0 : List UInt8 := dkwX19_solve_0 ++ dktX19_solve_1
theorem dksX19_solve_0 : cX19_solve.data.toList.drop 0 = dktX19_solve_0 := by decide +kernel
theorem dksX19_solve_1 : cX19_solve.data.toList.drop 24 = dktX19_solve_1 := dk_seg dksX19_solve_0 24 rfl rfl
theorem dksX19_solve_2 : cX19_solve.data.toList.drop 48 = dktX19_solve_2 := dk_seg dksX19_solve_1 24 rfl rfl
theorem dksX19_solve_3 : cX19_solve.data.toList.drop 72 = dktX19_solve_3 := dk_seg dksX19_solve_2 24 rfl rfl
theorem dX19_solve_0 : decode cX19_solve 0 = .ok (.aload_n 0, 1) := dk_42 (dk_at dksX19_solve_0 0 rfl rfl)
theorem dX19_solve_1 : decode cX19_solve 1 = .ok (.getfield 26, 3) := dk_180 0 26 (dk_at dksX19_solve_0 1 rfl rfl)
theorem dX19_solve_4 : decode cX19_solve 4 = .ok (.iconst 1, 1) := dk_4 (dk_at dksX19_solve_0 4 rfl rfl)
theorem dX19_solve_5 : decode cX19_solve 5 = .ok (.isub, 1) := dk_100 (dk_at dksX19_solve_0 5 rfl rfl)
theorem dX19_solve_6 : decode cX19_solve 6 = .ok (.istore_n 2, 1) := dk_61 (dk_at dksX19_solve_0 6 rfl rfl)
theorem dX19_solve_7 : decode cX19_solve 7 = .ok (.iconst 1, 1) := dk_4 (dk_at dksX19_solve_0 7 rfl rfl)
theorem dX19_solve_8 : decode cX19_solve 8 = .ok (.istore_n 3, 1) := dk_62 (dk_at dksX19_solve_0 8 rfl rfl)
theorem dX19_solve_9 : decode cX19_solve 9 = .ok (.iload_n 3, 1) := dk_29 (dk_at dksX19_solve_0 9 rfl rfl)
theorem dX19_solve_10 : decode cX19_solve 10 = .ok (.aload_n 0, 1) := dk_42 (dk_at dksX19_solve_0 10 rfl rfl)
theorem dX19_solve_11 : decode cX19_solve 11 = .ok (.getfield 22, 3) := dk_180 0 22 (dk_at dksX19_solve_0 11 rfl rfl)
theorem dX19_solve_14 : decode cX19_solve 14 = .ok (.if_icmp .ge 16, 3) := dk_162 0 16 (dk_at dksX19_solve_0 14 rfl rfl)
theorem dX19_solve_17 : decode cX19_solve 17 = .ok (.aload_n 0, 1) := dk_42 (dk_at dksX19_solve_0 17 rfl rfl)
theorem dX19_solve_18 : decode cX19_solve 18 = .ok (.getfield 19, 3) := dk_180 0 19 (dk_at dksX19_solve_0 18 rfl rfl)
theorem dX19_solve_21 : decode cX19_solve 21 = .ok (.iload_n 3, 1) := dk_29 (dk_at dksX19_solve_0 21 rfl rfl)
theorem dX19_solve_22 : decode cX19_solve 22 = .ok (.iload_n 3, 1) := dk_29 (dk_at dksX19_solve_0 22 rfl rfl)
theorem dX19_solve_23 : decode cX19_solve 23 = .ok (.iastore, 1) := dk_79 (dk_at dksX19_solve_0 23 rfl rfl)
theorem dX19_solve_24 : decode cX19_solve 24 = .ok (.iinc 3 1, 3) := dk_132 3 1 (dk_at dksX19_solve_1 0 rfl rfl)
theorem dX19_solve_27 : decode cX19_solve 27 = .ok (.goto (-18), 3) := dk_167 255 238 (dk_at dksX19_solve_1 3 rfl rfl)
theorem dX19_solve_30 : decode cX19_solve 30 = .ok (.iconst 0, 1) := dk_3 (dk_at dksX19_solve_1 6 rfl rfl)
theorem dX19_solve_31 : decode cX19_solve 31 = .ok (.istore_n 3, 1) := dk_62 (dk_at dksX19_solve_1 7 rfl rfl)
theorem dX19_solve_32 : decode cX19_solve 32 = .ok (.iload_n 3, 1) := dk_29 (dk_at dksX19_solve_1 8 rfl rfl)
theorem dX19_solve_33 : decode cX19_solve 33 = .ok (.iload_n 2, 1) := dk_28 (dk_at dksX19_solve_1 9 rfl rfl)
theorem dX19_solve_34 : decode cX19_solve 34 = .ok (.if_icmp .ge 23, 3) := dk_162 0 23 (dk_at dksX19_solve_1 10 rfl rfl)
theorem dX19_solve_37 : decode cX19_solve 37 = .ok (.aload_n 0, 1) := dk_42 (dk_at dksX19_solve_1 13 rfl rfl)
theorem dX19_solve_38 : decode cX19_solve 38 = .ok (.getfield 15, 3) := dk_180 0 15 (dk_at dksX19_solve_1 14 rfl rfl)
theorem dX19_solve_41 : decode cX19_solve 41 = .ok (.iload_n 3, 1) := dk_29 (dk_at dksX19_solve_1 17 rfl rfl)
theorem dX19_solve_42 : decode cX19_solve 42 = .ok (.aload_n 0, 1) := dk_42 (dk_at dksX19_solve_1 18 rfl rfl)
theorem dX19_solve_43 : decode cX19_solve 43 = .ok (.getfield 22, 3) := dk_180 0 22 (dk_at dksX19_solve_1 19 rfl rfl)
theorem dX19_solve_46 : decode cX19_solve 46 = .ok (.iconst 1, 1) := dk_4 (dk_at dksX19_solve_1 22 rfl rfl)
theorem dX19_solve_47 : decode cX19_solve 47 = .ok (.iadd, 1) := dk_96 (dk_at dksX19_solve_1 23 rfl rfl)
theorem dX19_solve_48 : decode cX19_solve 48 = .ok (.iload_n 3, 1) := dk_29 (dk_at dksX19_solve_2 0 rfl rfl)
theorem dX19_solve_49 : decode cX19_solve 49 = .ok (.iadd, 1) := dk_96 (dk_at dksX19_solve_2 1 rfl rfl)
theorem dX19_solve_50 : decode cX19_solve 50 = .ok (.iastore, 1) := dk_79 (dk_at dksX19_solve_2 2 rfl rfl)
theorem dX19_solve_51 : decode cX19_solve 51 = .ok (.iinc 3 1, 3) := dk_132 3 1 (dk_at dksX19_solve_2 3 rfl rfl)
theorem dX19_solve_54 : decode cX19_solve 54 = .ok (.goto (-22), 3) := dk_167 255 234 (dk_at dksX19_solve_2 6 rfl rfl)
theorem dX19_solve_57 : decode cX19_solve 57 = .ok (.aload_n 1, 1) := dk_43 (dk_at dksX19_solve_2 9 rfl rfl)
theorem dX19_solve_58 : decode cX19_solve 58 = .ok (.invokevirtual 41, 3) := dk_182 0 41 (dk_at dksX19_solve_2 10 rfl rfl)
theorem dX19_solve_61 : decode cX19_solve 61 = .ok (.aload_n 0, 1) := dk_42 (dk_at dksX19_solve_2 13 rfl rfl)
theorem dX19_solve_62 : decode cX19_solve 62 = .ok (.iload_n 2, 1) := dk_28 (dk_at dksX19_solve_2 14 rfl rfl)
theorem dX19_solve_63 : decode cX19_solve 63 = .ok (.invokevirtual 46, 3) := dk_182 0 46 (dk_at dksX19_solve_2 15 rfl rfl)
theorem dX19_solve_66 : decode cX19_solve 66 = .ok (.ifCond .eq 23, 3) := dk_153 0 23 (dk_at dksX19_solve_2 18 rfl rfl)
theorem dX19_solve_69 : decode cX19_solve 69 = .ok (.aload_n 0, 1) := dk_42 (dk_at dksX19_solve_2 21 rfl rfl)
theorem dX19_solve_70 : decode cX19_solve 70 = .ok (.iload_n 2, 1) := dk_28 (dk_at dksX19_solve_2 22 rfl rfl)
theorem dX19_solve_71 : decode cX19_solve 71 = .ok (.iload_n 2, 1) := dk_28 (dk_at dksX19_solve_2 23 rfl rfl)
theorem dX19_solve_72 : decode cX19_solve 72 = .ok (.invokevirtual 50, 3) := dk_182 0 50 (dk_at dksX19_solve_3 0 rfl rfl)
theorem dX19_solve_75 : decode cX19_solve 75 = .ok (.aload_n 1, 1) := dk_43 (dk_at dksX19_solve_3 3 rfl rfl)
theorem dX19_solve_76 : decode cX19_solve 76 = .ok (.aload_n 0, 1) := dk_42 (dk_at dksX19_solve_3 4 rfl rfl)
theorem dX19_solve_77 : decode cX19_solve 77 = .ok (.iload_n 2, 1) := dk_28 (dk_at dksX19_solve_3 5 rfl rfl)
theorem dX19_solve_78 : decode cX19_solve 78 = .ok (.iconst 0, 1) := dk_3 (dk_at dksX19_solve_3 6 rfl rfl)
theorem dX19_solve_79 : decode cX19_solve 79 = .ok (.invokevirtual 33, 3) := dk_182 0 33 (dk_at dksX19_solve_3 7 rfl rfl)
theorem dX19_solve_82 : decode cX19_solve 82 = .ok (.aload_n 0, 1) := dk_42 (dk_at dksX19_solve_3 10 rfl rfl)
theorem dX19_solve_83 : decode cX19_solve 83 = .ok (.getfield 29, 3) := dk_180 0 29 (dk_at dksX19_solve_3 11 rfl rfl)
theorem dX19_solve_86 : decode cX19_solve 86 = .ok (.invokevirtual 54, 3) := dk_182 0 54 (dk_at dksX19_solve_3 14 rfl rfl)
theorem dX19_solve_89 : decode cX19_solve 89 = .ok (.return_, 1) := dk_177 (dk_at dksX19_solve_3 17 rfl rfl)
abbrev cX19_begins : ByteArray := prog_37_method_8_code
def yX19_begins : MethodName := ⟨RX19, "begins", "(I)Z"⟩
def dkwX19_begins_7 : List UInt8 := [181, 0, 26, 21, 5, 153, 0, 9, 42, 27, 29, 182, 0, 66, 21, 5, 172]
abbrev dktX19_begins_7 : List UInt8 := dkwX19_begins_7 ++ []
def dkwX19_begins_6 : List UInt8 := [182, 0, 33, 9, 148, 154, 0, 7, 4, 167, 0, 4, 3, 54, 5, 42, 89, 180, 0, 26, 4, 100]
abbrev dktX19_begins_6 : List UInt8 := dkwX19_begins_6 ++ dktX19_begins_7
def dkwX19_begins_5 : List UInt8 := [42, 27, 29, 9, 182, 0, 37, 42, 28, 29, 182, 0, 63, 42, 21, 4, 27, 182, 0, 50, 42, 21, 4, 3]
abbrev dktX19_begins_5 : List UInt8 := dkwX19_begins_5 ++ dktX19_begins_6
def dkwX19_begins_4 : List UInt8 := [182, 0, 37, 132, 4, 1, 167, 255, 237, 42, 9, 182, 0, 59, 54, 4, 42, 21, 4, 29, 10, 182, 0, 37]
abbrev dktX19_begins_4 : List UInt8 := dkwX19_begins_4 ++ dktX19_begins_5
def dkwX19_begins_3 : List UInt8 := [180, 0, 19, 29, 29, 79, 3, 54, 4, 21, 4, 27, 162, 0, 19, 42, 21, 4, 29, 20, 0, 57]
abbrev dktX19_begins_3 : List UInt8 := dkwX19_begins_3 ++ dktX19_begins_4
def dkwX19_begins_2 : List UInt8 := [182, 0, 33, 9, 148, 155, 0, 5, 4, 172, 42, 89, 180, 0, 22, 90, 4, 96, 181, 0, 22, 62, 42]
abbrev dktX19_begins_2 : List UInt8 := dkwX19_begins_2 ++ dktX19_begins_3
def dkwX19_begins_1 : List UInt8 := [156, 0, 7, 29, 167, 0, 4, 28, 61, 132, 3, 1, 167, 255, 226, 27, 153, 0, 14, 42, 28, 3]
abbrev dktX19_begins_1 : List UInt8 := dkwX19_begins_1 ++ dktX19_begins_2
def dkwX19_begins_0 : List UInt8 := [3, 61, 4, 62, 29, 27, 162, 0, 31, 42, 29, 3, 182, 0, 33, 42, 28, 3, 182, 0, 33, 148]
abbrev dktX19_begins_0 : List UInt8 := dkwX19_begins_0 ++ dktX19_begins_1
theorem dksX19_begins_0 : cX19_begins.data.toList.drop 0 = dktX19_begins_0 := by decide +kernel
theorem dksX19_begins_1 : cX19_begins.data.toList.drop 22 = dktX19_begins_1 := dk_seg dksX19_begins_0 22 rfl rfl
theorem dksX19_begins_2 : cX19_begins.data.toList.drop 44 = dktX19_begins_2 := dk_seg dksX19_begins_1 22 rfl rfl
theorem dksX19_begins_3 : cX19_begins.data.toList.drop 67 = dktX19_begins_3 := dk_seg dksX19_begins_2 23 rfl rfl
theorem dksX19_begins_4 : cX19_begins.data.toList.drop 89 = dktX19_begins_4 := dk_seg dksX19_begins_3 22 rfl rfl
theorem dksX19_begins_5 : cX19_begins.data.toList.drop 113 = dktX19_begins_5 := dk_seg dksX19_begins_4 24 rfl rfl
theorem dksX19_begins_6 : cX19_begins.data.toList.drop 137 = dktX19_begins_6 := dk_seg dksX19_begins_5 24 rfl rfl
theorem dksX19_begins_7 : cX19_begins.data.toList.drop 159 = dktX19_begins_7 := dk_seg dksX19_begins_6 22 rfl rfl
theorem dX19_begins_0 : decode cX19_begins 0 = .ok (.iconst 0, 1) := dk_3 (dk_at dksX19_begins_0 0 rfl rfl)
theorem dX19_begins_1 : decode cX19_begins 1 = .ok (.istore_n 2, 1) := dk_61 (dk_at dksX19_begins_0 1 rfl rfl)
theorem dX19_begins_2 : decode cX19_begins 2 = .ok (.iconst 1, 1) := dk_4 (dk_at dksX19_begins_0 2 rfl rfl)
theorem dX19_begins_3 : decode cX19_begins 3 = .ok (.istore_n 3, 1) := dk_62 (dk_at dksX19_begins_0 3 rfl rfl)
theorem dX19_begins_4 : decode cX19_begins 4 = .ok (.iload_n 3, 1) := dk_29 (dk_at dksX19_begins_0 4 rfl rfl)
theorem dX19_begins_5 : decode cX19_begins 5 = .ok (.iload_n 1, 1) := dk_27 (dk_at dksX19_begins_0 5 rfl rfl)
theorem dX19_begins_6 : decode cX19_begins 6 = .ok (.if_icmp .ge 31, 3) := dk_162 0 31 (dk_at dksX19_begins_0 6 rfl rfl)
theorem dX19_begins_9 : decode cX19_begins 9 = .ok (.aload_n 0, 1) := dk_42 (dk_at dksX19_begins_0 9 rfl rfl)
theorem dX19_begins_10 : decode cX19_begins 10 = .ok (.iload_n 3, 1) := dk_29 (dk_at dksX19_begins_0 10 rfl rfl)
theorem dX19_begins_11 : decode cX19_begins 11 = .ok (.iconst 0, 1) := dk_3 (dk_at dksX19_begins_0 11 rfl rfl)
theorem dX19_begins_12 : decode cX19_begins 12 = .ok (.invokevirtual 33, 3) := dk_182 0 33 (dk_at dksX19_begins_0 12 rfl rfl)
theorem dX19_begins_15 : decode cX19_begins 15 = .ok (.aload_n 0, 1) := dk_42 (dk_at dksX19_begins_0 15 rfl rfl)
theorem dX19_begins_16 : decode cX19_begins 16 = .ok (.iload_n 2, 1) := dk_28 (dk_at dksX19_begins_0 16 rfl rfl)
theorem dX19_begins_17 : decode cX19_begins 17 = .ok (.iconst 0, 1) := dk_3 (dk_at dksX19_begins_0 17 rfl rfl)
theorem dX19_begins_18 : decode cX19_begins 18 = .ok (.invokevirtual 33, 3) := dk_182 0 33 (dk_at dksX19_begins_0 18 rfl rfl)
theorem dX19_begins_21 : decode cX19_begins 21 = .ok (.lcmp, 1) := dk_148 (dk_at dksX19_begins_0 21 rfl rfl)
theorem dX19_begins_22 : decode cX19_begins 22 = .ok (.ifCond .ge 7, 3) := dk_156 0 7 (dk_at dksX19_begins_1 0 rfl rfl)
theorem dX19_begins_25 : decode cX19_begins 25 = .ok (.iload_n 3, 1) := dk_29 (dk_at dksX19_begins_1 3 rfl rfl)
theorem dX19_begins_26 : decode cX19_begins 26 = .ok (.goto 4, 3) := dk_167 0 4 (dk_at dksX19_begins_1 4 rfl rfl)
theorem dX19_begins_29 : decode cX19_begins 29 = .ok (.iload_n 2, 1) := dk_28 (dk_at dksX19_begins_1 7 rfl rfl)
theorem dX19_begins_30 : decode cX19_begins 30 = .ok (.istore_n 2, 1) := dk_61 (dk_at dksX19_begins_1 8 rfl rfl)
theorem dX19_begins_31 : decode cX19_begins 31 = .ok (.iinc 3 1, 3) := dk_132 3 1 (dk_at dksX19_begins_1 9 rfl rfl)
theorem dX19_begins_34 : decode cX19_begins 34 = .ok (.goto (-30), 3) := dk_167 255 226 (dk_at dksX19_begins_1 12 rfl rfl)
theorem dX19_begins_37 : decode cX19_begins 37 = .ok (.iload_n 1, 1) := dk_27 (dk_at dksX19_begins_1 15 rfl rfl)
theorem dX19_begins_38 : decode cX19_begins 38 = .ok (.ifCond .eq 14, 3) := dk_153 0 14 (dk_at dksX19_begins_1 16 rfl rfl)
theorem dX19_begins_41 : decode cX19_begins 41 = .ok (.aload_n 0, 1) := dk_42 (dk_at dksX19_begins_1 19 rfl rfl)
theorem dX19_begins_42 : decode cX19_begins 42 = .ok (.iload_n 2, 1) := dk_28 (dk_at dksX19_begins_1 20 rfl rfl)
theorem dX19_begins_43 : decode cX19_begins 43 = .ok (.iconst 0, 1) := dk_3 (dk_at dksX19_begins_1 21 rfl rfl)
theorem dX19_begins_44 : decode cX19_begins 44 = .ok (.invokevirtual 33, 3) := dk_182 0 33 (dk_at dksX19_begins_2 0 rfl rfl)
theorem dX19_begins_47 : decode cX19_begins 47 = .ok (.lconst 0, 1) := dk_9 (dk_at dksX19_begins_2 3 rfl rfl)
theorem dX19_begins_48 : decode cX19_begins 48 = .ok (.lcmp, 1) := dk_148 (dk_at dksX19_begins_2 4 rfl rfl)
theorem dX19_begins_49 : decode cX19_begins 49 = .ok (.ifCond .lt 5, 3) := dk_155 0 5 (dk_at dksX19_begins_2 5 rfl rfl)
theorem dX19_begins_52 : decode cX19_begins 52 = .ok (.iconst 1, 1) := dk_4 (dk_at dksX19_begins_2 8 rfl rfl)
theorem dX19_begins_53 : decode cX19_begins 53 = .ok (.ireturn, 1) := dk_172 (dk_at dksX19_begins_2 9 rfl rfl)
theorem dX19_begins_54 : decode cX19_begins 54 = .ok (.aload_n 0, 1) := dk_42 (dk_at dksX19_begins_2 10 rfl rfl)
theorem dX19_begins_55 : decode cX19_begins 55 = .ok (.dup, 1) := dk_89 (dk_at dksX19_begins_2 11 rfl rfl)
theorem dX19_begins_56 : decode cX19_begins 56 = .ok (.getfield 22, 3) := dk_180 0 22 (dk_at dksX19_begins_2 12 rfl rfl)
theorem dX19_begins_59 : decode cX19_begins 59 = .ok (.dup_x1, 1) := dk_90 (dk_at dksX19_begins_2 15 rfl rfl)
theorem dX19_begins_60 : decode cX19_begins 60 = .ok (.iconst 1, 1) := dk_4 (dk_at dksX19_begins_2 16 rfl rfl)
theorem dX19_begins_61 : decode cX19_begins 61 = .ok (.iadd, 1) := dk_96 (dk_at dksX19_begins_2 17 rfl rfl)
theorem dX19_begins_62 : decode cX19_begins 62 = .ok (.putfield 22, 3) := dk_181 0 22 (dk_at dksX19_begins_2 18 rfl rfl)
theorem dX19_begins_65 : decode cX19_begins 65 = .ok (.istore_n 3, 1) := dk_62 (dk_at dksX19_begins_2 21 rfl rfl)
theorem dX19_begins_66 : decode cX19_begins 66 = .ok (.aload_n 0, 1) := dk_42 (dk_at dksX19_begins_2 22 rfl rfl)
theorem dX19_begins_67 : decode cX19_begins 67 = .ok (.getfield 19, 3) := dk_180 0 19 (dk_at dksX19_begins_3 0 rfl rfl)
theorem dX19_begins_70 : decode cX19_begins 70 = .ok (.iload_n 3, 1) := dk_29 (dk_at dksX19_begins_3 3 rfl rfl)
theorem dX19_begins_71 : decode cX19_begins 71 = .ok (.iload_n 3, 1) := dk_29 (dk_at dksX19_begins_3 4 rfl rfl)
theorem dX19_begins_72 : decode cX19_begins 72 = .ok (.iastore, 1) := dk_79 (dk_at dksX19_begins_3 5 rfl rfl)
theorem dX19_begins_73 : decode cX19_begins 73 = .ok (.iconst 0, 1) := dk_3 (dk_at dksX19_begins_3 6 rfl rfl)
theorem dX19_begins_74 : decode cX19_begins 74 = .ok (.istore 4, 2) := dk_54 4 (dk_at dksX19_begins_3 7 rfl rfl)
theorem dX19_begins_76 : decode cX19_begins 76 = .ok (.iload 4, 2) := dk_21 4 (dk_at dksX19_begins_3 9 rfl rfl)
theorem dX19_begins_78 : decode cX19_begins 78 = .ok (.iload_n 1, 1) := dk_27 (dk_at dksX19_begins_3 11 rfl rfl)
theorem dX19_begins_79 : decode cX19_begins 79 = .ok (.if_icmp .ge 19, 3) := dk_162 0 19 (dk_at dksX19_begins_3 12 rfl rfl)
theorem dX19_begins_82 : decode cX19_begins 82 = .ok (.aload_n 0, 1) := dk_42 (dk_at dksX19_begins_3 15 rfl rfl)
theorem dX19_begins_83 : decode cX19_begins 83 = .ok (.iload 4, 2) := dk_21 4 (dk_at dksX19_begins_3 16 rfl rfl)
theorem dX19_begins_85 : decode cX19_begins 85 = .ok (.iload_n 3, 1) := dk_29 (dk_at dksX19_begins_3 18 rfl rfl)
theorem dX19_begins_86 : decode cX19_begins 86 = .ok (.ldc2_w 57, 3) := dk_20 0 57 (dk_at dksX19_begins_3 19 rfl rfl)
theorem dX19_begins_89 : decode cX19_begins 89 = .ok (.invokevirtual 37, 3) := dk_182 0 37 (dk_at dksX19_begins_4 0 rfl rfl)
theorem dX19_begins_92 : decode cX19_begins 92 = .ok (.iinc 4 1, 3) := dk_132 4 1 (dk_at dksX19_begins_4 3 rfl rfl)
theorem dX19_begins_95 : decode cX19_begins 95 = .ok (.goto (-19), 3) := dk_167 255 237 (dk_at dksX19_begins_4 6 rfl rfl)
theorem dX19_begins_98 : decode cX19_begins 98 = .ok (.aload_n 0, 1) := dk_42 (dk_at dksX19_begins_4 9 rfl rfl)
theorem dX19_begins_99 : decode cX19_begins 99 = .ok (.lconst 0, 1) := dk_9 (dk_at dksX19_begins_4 10 rfl rfl)
theorem dX19_begins_100 : decode cX19_begins 100 = .ok (.invokevirtual 59, 3) := dk_182 0 59 (dk_at dksX19_begins_4 11 rfl rfl)
theorem dX19_begins_103 : decode cX19_begins 103 = .ok (.istore 4, 2) := dk_54 4 (dk_at dksX19_begins_4 14 rfl rfl)
theorem dX19_begins_105 : decode cX19_begins 105 = .ok (.aload_n 0, 1) := dk_42 (dk_at dksX19_begins_4 16 rfl rfl)
theorem dX19_begins_106 : decode cX19_begins 106 = .ok (.iload 4, 2) := dk_21 4 (dk_at dksX19_begins_4 17 rfl rfl)
theorem dX19_begins_108 : decode cX19_begins 108 = .ok (.iload_n 3, 1) := dk_29 (dk_at dksX19_begins_4 19 rfl rfl)
theorem dX19_begins_109 : decode cX19_begins 109 = .ok (.lconst 1, 1) := dk_10 (dk_at dksX19_begins_4 20 rfl rfl)
theorem dX19_begins_110 : decode cX19_begins 110 = .ok (.invokevirtual 37, 3) := dk_182 0 37 (dk_at dksX19_begins_4 21 rfl rfl)
theorem dX19_begins_113 : decode cX19_begins 113 = .ok (.aload_n 0, 1) := dk_42 (dk_at dksX19_begins_5 0 rfl rfl)
theorem dX19_begins_114 : decode cX19_begins 114 = .ok (.iload_n 1, 1) := dk_27 (dk_at dksX19_begins_5 1 rfl rfl)
theorem dX19_begins_115 : decode cX19_begins 115 = .ok (.iload_n 3, 1) := dk_29 (dk_at dksX19_begins_5 2 rfl rfl)
theorem dX19_begins_116 : decode cX19_begins 116 = .ok (.lconst 0, 1) := dk_9 (dk_at dksX19_begins_5 3 rfl rfl)
theorem dX19_begins_117 : decode cX19_begins 117 = .ok (.invokevirtual 37, 3) := dk_182 0 37 (dk_at dksX19_begins_5 4 rfl rfl)
theorem dX19_begins_120 : decode cX19_begins 120 = .ok (.aload_n 0, 1) := dk_42 (dk_at dksX19_begins_5 7 rfl rfl)
theorem dX19_begins_121 : decode cX19_begins 121 = .ok (.iload_n 2, 1) := dk_28 (dk_at dksX19_begins_5 8 rfl rfl)
theorem dX19_begins_122 : decode cX19_begins 122 = .ok (.iload_n 3, 1) := dk_29 (dk_at dksX19_begins_5 9 rfl rfl)
theorem dX19_begins_123 : decode cX19_begins 123 = .ok (.invokevirtual 63, 3) := dk_182 0 63 (dk_at dksX19_begins_5 10 rfl rfl)
theorem dX19_begins_126 : decode cX19_begins 126 = .ok (.aload_n 0, 1) := dk_42 (dk_at dksX19_begins_5 13 rfl rfl)
theorem dX19_begins_127 : decode cX19_begins 127 = .ok (.iload 4, 2) := dk_21 4 (dk_at dksX19_begins_5 14 rfl rfl)
theorem dX19_begins_129 : decode cX19_begins 129 = .ok (.iload_n 1, 1) := dk_27 (dk_at dksX19_begins_5 16 rfl rfl)
theorem dX19_begins_130 : decode cX19_begins 130 = .ok (.invokevirtual 50, 3) := dk_182 0 50 (dk_at dksX19_begins_5 17 rfl rfl)
theorem dX19_begins_133 : decode cX19_begins 133 = .ok (.aload_n 0, 1) := dk_42 (dk_at dksX19_begins_5 20 rfl rfl)
theorem dX19_begins_134 : decode cX19_begins 134 = .ok (.iload 4, 2) := dk_21 4 (dk_at dksX19_begins_5 21 rfl rfl)
theorem dX19_begins_136 : decode cX19_begins 136 = .ok (.iconst 0, 1) := dk_3 (dk_at dksX19_begins_5 23 rfl rfl)
theorem dX19_begins_137 : decode cX19_begins 137 = .ok (.invokevirtual 33, 3) := dk_182 0 33 (dk_at dksX19_begins_6 0 rfl rfl)
theorem dX19_begins_140 : decode cX19_begins 140 = .ok (.lconst 0, 1) := dk_9 (dk_at dksX19_begins_6 3 rfl rfl)
theorem dX19_begins_141 : decode cX19_begins 141 = .ok (.lcmp, 1) := dk_148 (dk_at dksX19_begins_6 4 rfl rfl)
theorem dX19_begins_142 : decode cX19_begins 142 = .ok (.ifCond .ne 7, 3) := dk_154 0 7 (dk_at dksX19_begins_6 5 rfl rfl)
theorem dX19_begins_145 : decode cX19_begins 145 = .ok (.iconst 1, 1) := dk_4 (dk_at dksX19_begins_6 8 rfl rfl)
theorem dX19_begins_146 : decode cX19_begins 146 = .ok (.goto 4, 3) := dk_167 0 4 (dk_at dksX19_begins_6 9 rfl rfl)
theorem dX19_begins_149 : decode cX19_begins 149 = .ok (.iconst 0, 1) := dk_3 (dk_at dksX19_begins_6 12 rfl rfl)
theorem dX19_begins_150 : decode cX19_begins 150 = .ok (.istore 5, 2) := dk_54 5 (dk_at dksX19_begins_6 13 rfl rfl)
theorem dX19_begins_152 : decode cX19_begins 152 = .ok (.aload_n 0, 1) := dk_42 (dk_at dksX19_begins_6 15 rfl rfl)
theorem dX19_begins_153 : decode cX19_begins 153 = .ok (.dup, 1) := dk_89 (dk_at dksX19_begins_6 16 rfl rfl)
theorem dX19_begins_154 : decode cX19_begins 154 = .ok (.getfield 26, 3) := dk_180 0 26 (dk_at dksX19_begins_6 17 rfl rfl)
theorem dX19_begins_157 : decode cX19_begins 157 = .ok (.iconst 1, 1) := dk_4 (dk_at dksX19_begins_6 20 rfl rfl)
theorem dX19_begins_158 : decode cX19_begins 158 = .ok (.isub, 1) := dk_100 (dk_at dksX19_begins_6 21 rfl rfl)
theorem dX19_begins_159 : decode cX19_begins 159 = .ok (.putfield 26, 3) := dk_181 0 26 (dk_at dksX19_begins_7 0 rfl rfl)
theorem dX19_begins_162 : decode cX19_begins 162 = .ok (.iload 5, 2) := dk_21 5 (dk_at dksX19_begins_7 3 rfl rfl)
theorem dX19_begins_164 : decode cX19_begins 164 = .ok (.ifCond .eq 9, 3) := dk_153 0 9 (dk_at dksX19_begins_7 5 rfl rfl)
theorem dX19_begins_167 : decode cX19_begins 167 = .ok (.aload_n 0, 1) := dk_42 (dk_at dksX19_begins_7 8 rfl rfl)
theorem dX19_begins_168 : decode cX19_begins 168 = .ok (.iload_n 1, 1) := dk_27 (dk_at dksX19_begins_7 9 rfl rfl)
theorem dX19_begins_169 : decode cX19_begins 169 = .ok (.iload_n 3, 1) := dk_29 (dk_at dksX19_begins_7 10 rfl rfl)
theorem dX19_begins_170 : decode cX19_begins 170 = .ok (.invokevirtual 66, 3) := dk_182 0 66 (dk_at dksX19_begins_7 11 rfl rfl)
theorem dX19_begins_173 : decode cX19_begins 173 = .ok (.iload 5, 2) := dk_21 5 (dk_at dksX19_begins_7 14 rfl rfl)
theorem dX19_begins_175 : decode cX19_begins 175 = .ok (.ireturn, 1) := dk_172 (dk_at dksX19_begins_7 16 rfl rfl)
abbrev cX19_at : ByteArray := prog_37_method_3_code
def yX19_at : MethodName := ⟨RX19, "at", "(II)J"⟩
def dkwX19_at_0 : List UInt8 := [42, 180, 0, 9, 16, 66, 27, 104, 28, 96, 47, 173]
abbrev dktX19_at_0 : List UInt8 := dkwX19_at_0 ++ []
theorem dksX19_at_0 : cX19_at.data.toList.drop 0 = dktX19_at_0 := by decide +kernel
theorem dX19_at_0 : decode cX19_at 0 = .ok (.aload_n 0, 1) := dk_42 (dk_at dksX19_at_0 0 rfl rfl)
theorem dX19_at_1 : decode cX19_at 1 = .ok (.getfield 9, 3) := dk_180 0 9 (dk_at dksX19_at_0 1 rfl rfl)
theorem dX19_at_4 : decode cX19_at 4 = .ok (.bipush 66, 2) := dk_16 66 (dk_at dksX19_at_0 4 rfl rfl)
theorem dX19_at_6 : decode cX19_at 6 = .ok (.iload_n 1, 1) := dk_27 (dk_at dksX19_at_0 6 rfl rfl)
theorem dX19_at_7 : decode cX19_at 7 = .ok (.imul, 1) := dk_104 (dk_at dksX19_at_0 7 rfl rfl)
theorem dX19_at_8 : decode cX19_at 8 = .ok (.iload_n 2, 1) := dk_28 (dk_at dksX19_at_0 8 rfl rfl)
theorem dX19_at_9 : decode cX19_at 9 = .ok (.iadd, 1) := dk_96 (dk_at dksX19_at_0 9 rfl rfl)
theorem dX19_at_10 : decode cX19_at 10 = .ok (.laload, 1) := dk_47 (dk_at dksX19_at_0 10 rfl rfl)
theorem dX19_at_11 : decode cX19_at 11 = .ok (.lreturn, 1) := dk_173 (dk_at dksX19_at_0 11 rfl rfl)
abbrev cX19_swap : ByteArray := prog_37_method_6_code
def yX19_swap : MethodName := ⟨RX19, "swap", "(II)V"⟩
def dkwX19_swap_8 : List UInt8 := [28, 46, 79, 42, 180, 0, 19, 28, 21, 5, 79, 177]
abbrev dktX19_swap_8 : List UInt8 := dkwX19_swap_8 ++ []
def dkwX19_swap_7 : List UInt8 := [80, 132, 5, 1, 167, 255, 226, 42, 180, 0, 15, 27, 46, 54, 5, 42, 180, 0, 15, 27, 42, 180, 0, 19]
abbrev dktX19_swap_7 : List UInt8 := dkwX19_swap_7 ++ dktX19_swap_8
def dkwX19_swap_6 : List UInt8 := [16, 66, 42, 180, 0, 26, 104, 162, 0, 24, 42, 180, 0, 9, 21, 5, 42, 180, 0, 9, 21, 5, 47, 117]
abbrev dktX19_swap_6 : List UInt8 := dkwX19_swap_6 ++ dktX19_swap_7
def dkwX19_swap_5 : List UInt8 := [42, 180, 0, 29, 9, 148, 156, 0, 48, 42, 42, 180, 0, 29, 117, 181, 0, 29, 3, 54, 5, 21, 5]
abbrev dktX19_swap_5 : List UInt8 := dkwX19_swap_5 ++ dktX19_swap_6
def dkwX19_swap_4 : List UInt8 := [167, 255, 192, 132, 5, 1, 167, 255, 165, 42, 27, 28, 42, 180, 0, 29, 182, 0, 37, 42, 33, 181, 0, 29]
abbrev dktX19_swap_4 : List UInt8 := dkwX19_swap_4 ++ dktX19_swap_5
def dkwX19_swap_3 : List UInt8 := [33, 105, 22, 6, 42, 27, 21, 8, 182, 0, 33, 105, 101, 42, 180, 0, 29, 109, 182, 0, 37, 132, 8, 1]
abbrev dktX19_swap_3 : List UInt8 := dkwX19_swap_3 ++ dktX19_swap_4
def dkwX19_swap_2 : List UInt8 := [21, 5, 21, 8, 21, 8, 28, 160, 0, 9, 22, 6, 117, 167, 0, 29, 42, 21, 5, 21, 8, 182, 0, 33]
abbrev dktX19_swap_2 : List UInt8 := dkwX19_swap_2 ++ dktX19_swap_3
def dkwX19_swap_1 : List UInt8 := [182, 0, 33, 55, 6, 3, 54, 8, 21, 8, 42, 180, 0, 22, 162, 0, 61, 21, 5, 27, 159, 0, 55, 42]
abbrev dktX19_swap_1 : List UInt8 := dkwX19_swap_1 ++ dktX19_swap_2
def dkwX19_swap_0 : List UInt8 := [42, 27, 28, 182, 0, 33, 66, 3, 54, 5, 21, 5, 42, 180, 0, 26, 162, 0, 88, 42, 21, 5, 28]
abbrev dktX19_swap_0 : List UInt8 := dkwX19_swap_0 ++ dktX19_swap_1
theorem dksX19_swap_0 : cX19_swap.data.toList.drop 0 = dktX19_swap_0 := by decide +kernel
theorem dksX19_swap_1 : cX19_swap.data.toList.drop 23 = dktX19_swap_1 := dk_seg dksX19_swap_0 23 rfl rfl
theorem dksX19_swap_2 : cX19_swap.data.toList.drop 47 = dktX19_swap_2 := dk_seg dksX19_swap_1 24 rfl rfl
theorem dksX19_swap_3 : cX19_swap.data.toList.drop 71 = dktX19_swap_3 := dk_seg dksX19_swap_2 24 rfl rfl
theorem dksX19_swap_4 : cX19_swap.data.toList.drop 95 = dktX19_swap_4 := dk_seg dksX19_swap_3 24 rfl rfl
theorem dksX19_swap_5 : cX19_swap.data.toList.drop 119 = dktX19_swap_5 := dk_seg dksX19_swap_4 24 rfl rfl
theorem dksX19_swap_6 : cX19_swap.data.toList.drop 142 = dktX19_swap_6 := dk_seg dksX19_swap_5 23 rfl rfl
theorem dksX19_swap_7 : cX19_swap.data.toList.drop 166 = dktX19_swap_7 := dk_seg dksX19_swap_6 24 rfl rfl
theorem dksX19_swap_8 : cX19_swap.data.toList.drop 190 = dktX19_swap_8 := dk_seg dksX19_swap_7 24 rfl rfl
theorem dX19_swap_0 : decode cX19_swap 0 = .ok (.aload_n 0, 1) := dk_42 (dk_at dksX19_swap_0 0 rfl rfl)
theorem dX19_swap_1 : decode cX19_swap 1 = .ok (.iload_n 1, 1) := dk_27 (dk_at dksX19_swap_0 1 rfl rfl)
theorem dX19_swap_2 : decode cX19_swap 2 = .ok (.iload_n 2, 1) := dk_28 (dk_at dksX19_swap_0 2 rfl rfl)
theorem dX19_swap_3 : decode cX19_swap 3 = .ok (.invokevirtual 33, 3) := dk_182 0 33 (dk_at dksX19_swap_0 3 rfl rfl)
theorem dX19_swap_6 : decode cX19_swap 6 = .ok (.lstore_n 3, 1) := dk_66 (dk_at dksX19_swap_0 6 rfl rfl)
theorem dX19_swap_7 : decode cX19_swap 7 = .ok (.iconst 0, 1) := dk_3 (dk_at dksX19_swap_0 7 rfl rfl)
theorem dX19_swap_8 : decode cX19_swap 8 = .ok (.istore 5, 2) := dk_54 5 (dk_at dksX19_swap_0 8 rfl rfl)
theorem dX19_swap_10 : decode cX19_swap 10 = .ok (.iload 5, 2) := dk_21 5 (dk_at dksX19_swap_0 10 rfl rfl)
theorem dX19_swap_12 : decode cX19_swap 12 = .ok (.aload_n 0, 1) := dk_42 (dk_at dksX19_swap_0 12 rfl rfl)
theorem dX19_swap_13 : decode cX19_swap 13 = .ok (.getfield 26, 3) := dk_180 0 26 (dk_at dksX19_swap_0 13 rfl rfl)
theorem dX19_swap_16 : decode cX19_swap 16 = .ok (.if_icmp .ge 88, 3) := dk_162 0 88 (dk_at dksX19_swap_0 16 rfl rfl)
theorem dX19_swap_19 : decode cX19_swap 19 = .ok (.aload_n 0, 1) := dk_42 (dk_at dksX19_swap_0 19 rfl rfl)
theorem dX19_swap_20 : decode cX19_swap 20 = .ok (.iload 5, 2) := dk_21 5 (dk_at dksX19_swap_0 20 rfl rfl)
theorem dX19_swap_22 : decode cX19_swap 22 = .ok (.iload_n 2, 1) := dk_28 (dk_at dksX19_swap_0 22 rfl rfl)
theorem dX19_swap_23 : decode cX19_swap 23 = .ok (.invokevirtual 33, 3) := dk_182 0 33 (dk_at dksX19_swap_1 0 rfl rfl)
theorem dX19_swap_26 : decode cX19_swap 26 = .ok (.lstore 6, 2) := dk_55 6 (dk_at dksX19_swap_1 3 rfl rfl)
theorem dX19_swap_28 : decode cX19_swap 28 = .ok (.iconst 0, 1) := dk_3 (dk_at dksX19_swap_1 5 rfl rfl)
theorem dX19_swap_29 : decode cX19_swap 29 = .ok (.istore 8, 2) := dk_54 8 (dk_at dksX19_swap_1 6 rfl rfl)
theorem dX19_swap_31 : decode cX19_swap 31 = .ok (.iload 8, 2) := dk_21 8 (dk_at dksX19_swap_1 8 rfl rfl)
theorem dX19_swap_33 : decode cX19_swap 33 = .ok (.aload_n 0, 1) := dk_42 (dk_at dksX19_swap_1 10 rfl rfl)
theorem dX19_swap_34 : decode cX19_swap 34 = .ok (.getfield 22, 3) := dk_180 0 22 (dk_at dksX19_swap_1 11 rfl rfl)
theorem dX19_swap_37 : decode cX19_swap 37 = .ok (.if_icmp .ge 61, 3) := dk_162 0 61 (dk_at dksX19_swap_1 14 rfl rfl)
theorem dX19_swap_40 : decode cX19_swap 40 = .ok (.iload 5, 2) := dk_21 5 (dk_at dksX19_swap_1 17 rfl rfl)
theorem dX19_swap_42 : decode cX19_swap 42 = .ok (.iload_n 1, 1) := dk_27 (dk_at dksX19_swap_1 19 rfl rfl)
theorem dX19_swap_43 : decode cX19_swap 43 = .ok (.if_icmp .eq 55, 3) := dk_159 0 55 (dk_at dksX19_swap_1 20 rfl rfl)
theorem dX19_swap_46 : decode cX19_swap 46 = .ok (.aload_n 0, 1) := dk_42 (dk_at dksX19_swap_1 23 rfl rfl)
theorem dX19_swap_47 : decode cX19_swap 47 = .ok (.iload 5, 2) := dk_21 5 (dk_at dksX19_swap_2 0 rfl rfl)
theorem dX19_swap_49 : decode cX19_swap 49 = .ok (.iload 8, 2) := dk_21 8 (dk_at dksX19_swap_2 2 rfl rfl)
theorem dX19_swap_51 : decode cX19_swap 51 = .ok (.iload 8, 2) := dk_21 8 (dk_at dksX19_swap_2 4 rfl rfl)
theorem dX19_swap_53 : decode cX19_swap 53 = .ok (.iload_n 2, 1) := dk_28 (dk_at dksX19_swap_2 6 rfl rfl)
theorem dX19_swap_54 : decode cX19_swap 54 = .ok (.if_icmp .ne 9, 3) := dk_160 0 9 (dk_at dksX19_swap_2 7 rfl rfl)
theorem dX19_swap_57 : decode cX19_swap 57 = .ok (.lload 6, 2) := dk_22 6 (dk_at dksX19_swap_2 10 rfl rfl)
theorem dX19_swap_59 : decode cX19_swap 59 = .ok (.lneg, 1) := dk_117 (dk_at dksX19_swap_2 12 rfl rfl)
theorem dX19_swap_60 : decode cX19_swap 60 = .ok (.goto 29, 3) := dk_167 0 29 (dk_at dksX19_swap_2 13 rfl rfl)
theorem dX19_swap_63 : decode cX19_swap 63 = .ok (.aload_n 0, 1) := dk_42 (dk_at dksX19_swap_2 16 rfl rfl)
theorem dX19_swap_64 : decode cX19_swap 64 = .ok (.iload 5, 2) := dk_21 5 (dk_at dksX19_swap_2 17 rfl rfl)
theorem dX19_swap_66 : decode cX19_swap 66 = .ok (.iload 8, 2) := dk_21 8 (dk_at dksX19_swap_2 19 rfl rfl)
theorem dX19_swap_68 : decode cX19_swap 68 = .ok (.invokevirtual 33, 3) := dk_182 0 33 (dk_at dksX19_swap_2 21 rfl rfl)
theorem dX19_swap_71 : decode cX19_swap 71 = .ok (.lload_n 3, 1) := dk_33 (dk_at dksX19_swap_3 0 rfl rfl)
theorem dX19_swap_72 : decode cX19_swap 72 = .ok (.lmul, 1) := dk_105 (dk_at dksX19_swap_3 1 rfl rfl)
theorem dX19_swap_73 : decode cX19_swap 73 = .ok (.lload 6, 2) := dk_22 6 (dk_at dksX19_swap_3 2 rfl rfl)
theorem dX19_swap_75 : decode cX19_swap 75 = .ok (.aload_n 0, 1) := dk_42 (dk_at dksX19_swap_3 4 rfl rfl)
theorem dX19_swap_76 : decode cX19_swap 76 = .ok (.iload_n 1, 1) := dk_27 (dk_at dksX19_swap_3 5 rfl rfl)
theorem dX19_swap_77 : decode cX19_swap 77 = .ok (.iload 8, 2) := dk_21 8 (dk_at dksX19_swap_3 6 rfl rfl)
theorem dX19_swap_79 : decode cX19_swap 79 = .ok (.invokevirtual 33, 3) := dk_182 0 33 (dk_at dksX19_swap_3 8 rfl rfl)
theorem dX19_swap_82 : decode cX19_swap 82 = .ok (.lmul, 1) := dk_105 (dk_at dksX19_swap_3 11 rfl rfl)
theorem dX19_swap_83 : decode cX19_swap 83 = .ok (.lsub, 1) := dk_101 (dk_at dksX19_swap_3 12 rfl rfl)
theorem dX19_swap_84 : decode cX19_swap 84 = .ok (.aload_n 0, 1) := dk_42 (dk_at dksX19_swap_3 13 rfl rfl)
theorem dX19_swap_85 : decode cX19_swap 85 = .ok (.getfield 29, 3) := dk_180 0 29 (dk_at dksX19_swap_3 14 rfl rfl)
theorem dX19_swap_88 : decode cX19_swap 88 = .ok (.ldiv, 1) := dk_109 (dk_at dksX19_swap_3 17 rfl rfl)
theorem dX19_swap_89 : decode cX19_swap 89 = .ok (.invokevirtual 37, 3) := dk_182 0 37 (dk_at dksX19_swap_3 18 rfl rfl)
theorem dX19_swap_92 : decode cX19_swap 92 = .ok (.iinc 8 1, 3) := dk_132 8 1 (dk_at dksX19_swap_3 21 rfl rfl)
theorem dX19_swap_95 : decode cX19_swap 95 = .ok (.goto (-64), 3) := dk_167 255 192 (dk_at dksX19_swap_4 0 rfl rfl)
theorem dX19_swap_98 : decode cX19_swap 98 = .ok (.iinc 5 1, 3) := dk_132 5 1 (dk_at dksX19_swap_4 3 rfl rfl)
theorem dX19_swap_101 : decode cX19_swap 101 = .ok (.goto (-91), 3) := dk_167 255 165 (dk_at dksX19_swap_4 6 rfl rfl)
theorem dX19_swap_104 : decode cX19_swap 104 = .ok (.aload_n 0, 1) := dk_42 (dk_at dksX19_swap_4 9 rfl rfl)
theorem dX19_swap_105 : decode cX19_swap 105 = .ok (.iload_n 1, 1) := dk_27 (dk_at dksX19_swap_4 10 rfl rfl)
theorem dX19_swap_106 : decode cX19_swap 106 = .ok (.iload_n 2, 1) := dk_28 (dk_at dksX19_swap_4 11 rfl rfl)
theorem dX19_swap_107 : decode cX19_swap 107 = .ok (.aload_n 0, 1) := dk_42 (dk_at dksX19_swap_4 12 rfl rfl)
theorem dX19_swap_108 : decode cX19_swap 108 = .ok (.getfield 29, 3) := dk_180 0 29 (dk_at dksX19_swap_4 13 rfl rfl)
theorem dX19_swap_111 : decode cX19_swap 111 = .ok (.invokevirtual 37, 3) := dk_182 0 37 (dk_at dksX19_swap_4 16 rfl rfl)
theorem dX19_swap_114 : decode cX19_swap 114 = .ok (.aload_n 0, 1) := dk_42 (dk_at dksX19_swap_4 19 rfl rfl)
theorem dX19_swap_115 : decode cX19_swap 115 = .ok (.lload_n 3, 1) := dk_33 (dk_at dksX19_swap_4 20 rfl rfl)
theorem dX19_swap_116 : decode cX19_swap 116 = .ok (.putfield 29, 3) := dk_181 0 29 (dk_at dksX19_swap_4 21 rfl rfl)
theorem dX19_swap_119 : decode cX19_swap 119 = .ok (.aload_n 0, 1) := dk_42 (dk_at dksX19_swap_5 0 rfl rfl)
theorem dX19_swap_120 : decode cX19_swap 120 = .ok (.getfield 29, 3) := dk_180 0 29 (dk_at dksX19_swap_5 1 rfl rfl)
theorem dX19_swap_123 : decode cX19_swap 123 = .ok (.lconst 0, 1) := dk_9 (dk_at dksX19_swap_5 4 rfl rfl)
theorem dX19_swap_124 : decode cX19_swap 124 = .ok (.lcmp, 1) := dk_148 (dk_at dksX19_swap_5 5 rfl rfl)
theorem dX19_swap_125 : decode cX19_swap 125 = .ok (.ifCond .ge 48, 3) := dk_156 0 48 (dk_at dksX19_swap_5 6 rfl rfl)
theorem dX19_swap_128 : decode cX19_swap 128 = .ok (.aload_n 0, 1) := dk_42 (dk_at dksX19_swap_5 9 rfl rfl)
theorem dX19_swap_129 : decode cX19_swap 129 = .ok (.aload_n 0, 1) := dk_42 (dk_at dksX19_swap_5 10 rfl rfl)
theorem dX19_swap_130 : decode cX19_swap 130 = .ok (.getfield 29, 3) := dk_180 0 29 (dk_at dksX19_swap_5 11 rfl rfl)
theorem dX19_swap_133 : decode cX19_swap 133 = .ok (.lneg, 1) := dk_117 (dk_at dksX19_swap_5 14 rfl rfl)
theorem dX19_swap_134 : decode cX19_swap 134 = .ok (.putfield 29, 3) := dk_181 0 29 (dk_at dksX19_swap_5 15 rfl rfl)
theorem dX19_swap_137 : decode cX19_swap 137 = .ok (.iconst 0, 1) := dk_3 (dk_at dksX19_swap_5 18 rfl rfl)
theorem dX19_swap_138 : decode cX19_swap 138 = .ok (.istore 5, 2) := dk_54 5 (dk_at dksX19_swap_5 19 rfl rfl)
theorem dX19_swap_140 : decode cX19_swap 140 = .ok (.iload 5, 2) := dk_21 5 (dk_at dksX19_swap_5 21 rfl rfl)
theorem dX19_swap_142 : decode cX19_swap 142 = .ok (.bipush 66, 2) := dk_16 66 (dk_at dksX19_swap_6 0 rfl rfl)
theorem dX19_swap_144 : decode cX19_swap 144 = .ok (.aload_n 0, 1) := dk_42 (dk_at dksX19_swap_6 2 rfl rfl)
theorem dX19_swap_145 : decode cX19_swap 145 = .ok (.getfield 26, 3) := dk_180 0 26 (dk_at dksX19_swap_6 3 rfl rfl)
theorem dX19_swap_148 : decode cX19_swap 148 = .ok (.imul, 1) := dk_104 (dk_at dksX19_swap_6 6 rfl rfl)
theorem dX19_swap_149 : decode cX19_swap 149 = .ok (.if_icmp .ge 24, 3) := dk_162 0 24 (dk_at dksX19_swap_6 7 rfl rfl)
theorem dX19_swap_152 : decode cX19_swap 152 = .ok (.aload_n 0, 1) := dk_42 (dk_at dksX19_swap_6 10 rfl rfl)
theorem dX19_swap_153 : decode cX19_swap 153 = .ok (.getfield 9, 3) := dk_180 0 9 (dk_at dksX19_swap_6 11 rfl rfl)
theorem dX19_swap_156 : decode cX19_swap 156 = .ok (.iload 5, 2) := dk_21 5 (dk_at dksX19_swap_6 14 rfl rfl)
theorem dX19_swap_158 : decode cX19_swap 158 = .ok (.aload_n 0, 1) := dk_42 (dk_at dksX19_swap_6 16 rfl rfl)
theorem dX19_swap_159 : decode cX19_swap 159 = .ok (.getfield 9, 3) := dk_180 0 9 (dk_at dksX19_swap_6 17 rfl rfl)
theorem dX19_swap_162 : decode cX19_swap 162 = .ok (.iload 5, 2) := dk_21 5 (dk_at dksX19_swap_6 20 rfl rfl)
theorem dX19_swap_164 : decode cX19_swap 164 = .ok (.laload, 1) := dk_47 (dk_at dksX19_swap_6 22 rfl rfl)
theorem dX19_swap_165 : decode cX19_swap 165 = .ok (.lneg, 1) := dk_117 (dk_at dksX19_swap_6 23 rfl rfl)
theorem dX19_swap_166 : decode cX19_swap 166 = .ok (.lastore, 1) := dk_80 (dk_at dksX19_swap_7 0 rfl rfl)
theorem dX19_swap_167 : decode cX19_swap 167 = .ok (.iinc 5 1, 3) := dk_132 5 1 (dk_at dksX19_swap_7 1 rfl rfl)
theorem dX19_swap_170 : decode cX19_swap 170 = .ok (.goto (-30), 3) := dk_167 255 226 (dk_at dksX19_swap_7 4 rfl rfl)
theorem dX19_swap_173 : decode cX19_swap 173 = .ok (.aload_n 0, 1) := dk_42 (dk_at dksX19_swap_7 7 rfl rfl)
theorem dX19_swap_174 : decode cX19_swap 174 = .ok (.getfield 15, 3) := dk_180 0 15 (dk_at dksX19_swap_7 8 rfl rfl)
theorem dX19_swap_177 : decode cX19_swap 177 = .ok (.iload_n 1, 1) := dk_27 (dk_at dksX19_swap_7 11 rfl rfl)
theorem dX19_swap_178 : decode cX19_swap 178 = .ok (.iaload, 1) := dk_46 (dk_at dksX19_swap_7 12 rfl rfl)
theorem dX19_swap_179 : decode cX19_swap 179 = .ok (.istore 5, 2) := dk_54 5 (dk_at dksX19_swap_7 13 rfl rfl)
theorem dX19_swap_181 : decode cX19_swap 181 = .ok (.aload_n 0, 1) := dk_42 (dk_at dksX19_swap_7 15 rfl rfl)
theorem dX19_swap_182 : decode cX19_swap 182 = .ok (.getfield 15, 3) := dk_180 0 15 (dk_at dksX19_swap_7 16 rfl rfl)
theorem dX19_swap_185 : decode cX19_swap 185 = .ok (.iload_n 1, 1) := dk_27 (dk_at dksX19_swap_7 19 rfl rfl)
theorem dX19_swap_186 : decode cX19_swap 186 = .ok (.aload_n 0, 1) := dk_42 (dk_at dksX19_swap_7 20 rfl rfl)
theorem dX19_swap_187 : decode cX19_swap 187 = .ok (.getfield 19, 3) := dk_180 0 19 (dk_at dksX19_swap_7 21 rfl rfl)
theorem dX19_swap_190 : decode cX19_swap 190 = .ok (.iload_n 2, 1) := dk_28 (dk_at dksX19_swap_8 0 rfl rfl)
theorem dX19_swap_191 : decode cX19_swap 191 = .ok (.iaload, 1) := dk_46 (dk_at dksX19_swap_8 1 rfl rfl)
theorem dX19_swap_192 : decode cX19_swap 192 = .ok (.iastore, 1) := dk_79 (dk_at dksX19_swap_8 2 rfl rfl)
theorem dX19_swap_193 : decode cX19_swap 193 = .ok (.aload_n 0, 1) := dk_42 (dk_at dksX19_swap_8 3 rfl rfl)
theorem dX19_swap_194 : decode cX19_swap 194 = .ok (.getfield 19, 3) := dk_180 0 19 (dk_at dksX19_swap_8 4 rfl rfl)
theorem dX19_swap_197 : decode cX19_swap 197 = .ok (.iload_n 2, 1) := dk_28 (dk_at dksX19_swap_8 7 rfl rfl)
theorem dX19_swap_198 : decode cX19_swap 198 = .ok (.iload 5, 2) := dk_21 5 (dk_at dksX19_swap_8 8 rfl rfl)
theorem dX19_swap_200 : decode cX19_swap 200 = .ok (.iastore, 1) := dk_79 (dk_at dksX19_swap_8 10 rfl rfl)
theorem dX19_swap_201 : decode cX19_swap 201 = .ok (.return_, 1) := dk_177 (dk_at dksX19_swap_8 11 rfl rfl)
abbrev cX19_climb : ByteArray := prog_37_method_10_code
def yX19_climb : MethodName := ⟨RX19, "climb", "(II)V"⟩
def dkwX19_climb_1 : List UInt8 := [182, 0, 69, 62, 167, 255, 235, 177]
abbrev dktX19_climb_1 : List UInt8 := dkwX19_climb_1 ++ []
def dkwX19_climb_0 : List UInt8 := [42, 27, 182, 0, 69, 62, 29, 158, 0, 23, 42, 42, 29, 28, 182, 0, 73, 29, 182, 0, 63, 42, 27]
abbrev dktX19_climb_0 : List UInt8 := dkwX19_climb_0 ++ dktX19_climb_1
theorem dksX19_climb_0 : cX19_climb.data.toList.drop 0 = dktX19_climb_0 := by decide +kernel
theorem dksX19_climb_1 : cX19_climb.data.toList.drop 23 = dktX19_climb_1 := dk_seg dksX19_climb_0 23 rfl rfl
theorem dX19_climb_0 : decode cX19_climb 0 = .ok (.aload_n 0, 1) := dk_42 (dk_at dksX19_climb_0 0 rfl rfl)
theorem dX19_climb_1 : decode cX19_climb 1 = .ok (.iload_n 1, 1) := dk_27 (dk_at dksX19_climb_0 1 rfl rfl)
theorem dX19_climb_2 : decode cX19_climb 2 = .ok (.invokevirtual 69, 3) := dk_182 0 69 (dk_at dksX19_climb_0 2 rfl rfl)
theorem dX19_climb_5 : decode cX19_climb 5 = .ok (.istore_n 3, 1) := dk_62 (dk_at dksX19_climb_0 5 rfl rfl)
theorem dX19_climb_6 : decode cX19_climb 6 = .ok (.iload_n 3, 1) := dk_29 (dk_at dksX19_climb_0 6 rfl rfl)
theorem dX19_climb_7 : decode cX19_climb 7 = .ok (.ifCond .le 23, 3) := dk_158 0 23 (dk_at dksX19_climb_0 7 rfl rfl)
theorem dX19_climb_10 : decode cX19_climb 10 = .ok (.aload_n 0, 1) := dk_42 (dk_at dksX19_climb_0 10 rfl rfl)
theorem dX19_climb_11 : decode cX19_climb 11 = .ok (.aload_n 0, 1) := dk_42 (dk_at dksX19_climb_0 11 rfl rfl)
theorem dX19_climb_12 : decode cX19_climb 12 = .ok (.iload_n 3, 1) := dk_29 (dk_at dksX19_climb_0 12 rfl rfl)
theorem dX19_climb_13 : decode cX19_climb 13 = .ok (.iload_n 2, 1) := dk_28 (dk_at dksX19_climb_0 13 rfl rfl)
theorem dX19_climb_14 : decode cX19_climb 14 = .ok (.invokevirtual 73, 3) := dk_182 0 73 (dk_at dksX19_climb_0 14 rfl rfl)
theorem dX19_climb_17 : decode cX19_climb 17 = .ok (.iload_n 3, 1) := dk_29 (dk_at dksX19_climb_0 17 rfl rfl)
theorem dX19_climb_18 : decode cX19_climb 18 = .ok (.invokevirtual 63, 3) := dk_182 0 63 (dk_at dksX19_climb_0 18 rfl rfl)
theorem dX19_climb_21 : decode cX19_climb 21 = .ok (.aload_n 0, 1) := dk_42 (dk_at dksX19_climb_0 21 rfl rfl)
theorem dX19_climb_22 : decode cX19_climb 22 = .ok (.iload_n 1, 1) := dk_27 (dk_at dksX19_climb_0 22 rfl rfl)
theorem dX19_climb_23 : decode cX19_climb 23 = .ok (.invokevirtual 69, 3) := dk_182 0 69 (dk_at dksX19_climb_1 0 rfl rfl)
theorem dX19_climb_26 : decode cX19_climb 26 = .ok (.istore_n 3, 1) := dk_62 (dk_at dksX19_climb_1 3 rfl rfl)
theorem dX19_climb_27 : decode cX19_climb 27 = .ok (.goto (-21), 3) := dk_167 255 235 (dk_at dksX19_climb_1 4 rfl rfl)
theorem dX19_climb_30 : decode cX19_climb 30 = .ok (.return_, 1) := dk_177 (dk_at dksX19_climb_1 7 rfl rfl)
abbrev cX19_helping : ByteArray := prog_37_method_11_code
def yX19_helping : MethodName := ⟨RX19, "helping", "(I)I"⟩
def dkwX19_helping_2 : List UInt8 := [132, 3, 1, 167, 255, 209, 28, 172]
abbrev dktX19_helping_2 : List UInt8 := dkwX19_helping_2 ++ []
def dkwX19_helping_1 : List UInt8 := [153, 0, 18, 42, 180, 0, 19, 29, 46, 42, 180, 0, 19, 28, 46, 162, 0, 7, 29, 167, 0, 4, 28, 61]
abbrev dktX19_helping_1 : List UInt8 := dkwX19_helping_1 ++ dktX19_helping_2
def dkwX19_helping_0 : List UInt8 := [3, 61, 4, 62, 29, 42, 180, 0, 22, 162, 0, 45, 42, 27, 29, 182, 0, 33, 9, 148, 156, 0, 26, 28]
abbrev dktX19_helping_0 : List UInt8 := dkwX19_helping_0 ++ dktX19_helping_1
theorem dksX19_helping_0 : cX19_helping.data.toList.drop 0 = dktX19_helping_0 := by decide +kernel
theorem dksX19_helping_1 : cX19_helping.data.toList.drop 24 = dktX19_helping_1 := dk_seg dksX19_helping_0 24 rfl rfl
theorem dksX19_helping_2 : cX19_helping.data.toList.drop 48 = dktX19_helping_2 := dk_seg dksX19_helping_1 24 rfl rfl
theorem dX19_helping_0 : decode cX19_helping 0 = .ok (.iconst 0, 1) := dk_3 (dk_at dksX19_helping_0 0 rfl rfl)
theorem dX19_helping_1 : decode cX19_helping 1 = .ok (.istore_n 2, 1) := dk_61 (dk_at dksX19_helping_0 1 rfl rfl)
theorem dX19_helping_2 : decode cX19_helping 2 = .ok (.iconst 1, 1) := dk_4 (dk_at dksX19_helping_0 2 rfl rfl)
theorem dX19_helping_3 : decode cX19_helping 3 = .ok (.istore_n 3, 1) := dk_62 (dk_at dksX19_helping_0 3 rfl rfl)
theorem dX19_helping_4 : decode cX19_helping 4 = .ok (.iload_n 3, 1) := dk_29 (dk_at dksX19_helping_0 4 rfl rfl)
theorem dX19_helping_5 : decode cX19_helping 5 = .ok (.aload_n 0, 1) := dk_42 (dk_at dksX19_helping_0 5 rfl rfl)
theorem dX19_helping_6 : decode cX19_helping 6 = .ok (.getfield 22, 3) := dk_180 0 22 (dk_at dksX19_helping_0 6 rfl rfl)
theorem dX19_helping_9 : decode cX19_helping 9 = .ok (.if_icmp .ge 45, 3) := dk_162 0 45 (dk_at dksX19_helping_0 9 rfl rfl)
theorem dX19_helping_12 : decode cX19_helping 12 = .ok (.aload_n 0, 1) := dk_42 (dk_at dksX19_helping_0 12 rfl rfl)
theorem dX19_helping_13 : decode cX19_helping 13 = .ok (.iload_n 1, 1) := dk_27 (dk_at dksX19_helping_0 13 rfl rfl)
theorem dX19_helping_14 : decode cX19_helping 14 = .ok (.iload_n 3, 1) := dk_29 (dk_at dksX19_helping_0 14 rfl rfl)
theorem dX19_helping_15 : decode cX19_helping 15 = .ok (.invokevirtual 33, 3) := dk_182 0 33 (dk_at dksX19_helping_0 15 rfl rfl)
theorem dX19_helping_18 : decode cX19_helping 18 = .ok (.lconst 0, 1) := dk_9 (dk_at dksX19_helping_0 18 rfl rfl)
theorem dX19_helping_19 : decode cX19_helping 19 = .ok (.lcmp, 1) := dk_148 (dk_at dksX19_helping_0 19 rfl rfl)
theorem dX19_helping_20 : decode cX19_helping 20 = .ok (.ifCond .ge 26, 3) := dk_156 0 26 (dk_at dksX19_helping_0 20 rfl rfl)
theorem dX19_helping_23 : decode cX19_helping 23 = .ok (.iload_n 2, 1) := dk_28 (dk_at dksX19_helping_0 23 rfl rfl)
theorem dX19_helping_24 : decode cX19_helping 24 = .ok (.ifCond .eq 18, 3) := dk_153 0 18 (dk_at dksX19_helping_1 0 rfl rfl)
theorem dX19_helping_27 : decode cX19_helping 27 = .ok (.aload_n 0, 1) := dk_42 (dk_at dksX19_helping_1 3 rfl rfl)
theorem dX19_helping_28 : decode cX19_helping 28 = .ok (.getfield 19, 3) := dk_180 0 19 (dk_at dksX19_helping_1 4 rfl rfl)
theorem dX19_helping_31 : decode cX19_helping 31 = .ok (.iload_n 3, 1) := dk_29 (dk_at dksX19_helping_1 7 rfl rfl)
theorem dX19_helping_32 : decode cX19_helping 32 = .ok (.iaload, 1) := dk_46 (dk_at dksX19_helping_1 8 rfl rfl)
theorem dX19_helping_33 : decode cX19_helping 33 = .ok (.aload_n 0, 1) := dk_42 (dk_at dksX19_helping_1 9 rfl rfl)
theorem dX19_helping_34 : decode cX19_helping 34 = .ok (.getfield 19, 3) := dk_180 0 19 (dk_at dksX19_helping_1 10 rfl rfl)
theorem dX19_helping_37 : decode cX19_helping 37 = .ok (.iload_n 2, 1) := dk_28 (dk_at dksX19_helping_1 13 rfl rfl)
theorem dX19_helping_38 : decode cX19_helping 38 = .ok (.iaload, 1) := dk_46 (dk_at dksX19_helping_1 14 rfl rfl)
theorem dX19_helping_39 : decode cX19_helping 39 = .ok (.if_icmp .ge 7, 3) := dk_162 0 7 (dk_at dksX19_helping_1 15 rfl rfl)
theorem dX19_helping_42 : decode cX19_helping 42 = .ok (.iload_n 3, 1) := dk_29 (dk_at dksX19_helping_1 18 rfl rfl)
theorem dX19_helping_43 : decode cX19_helping 43 = .ok (.goto 4, 3) := dk_167 0 4 (dk_at dksX19_helping_1 19 rfl rfl)
theorem dX19_helping_46 : decode cX19_helping 46 = .ok (.iload_n 2, 1) := dk_28 (dk_at dksX19_helping_1 22 rfl rfl)
theorem dX19_helping_47 : decode cX19_helping 47 = .ok (.istore_n 2, 1) := dk_61 (dk_at dksX19_helping_1 23 rfl rfl)
theorem dX19_helping_48 : decode cX19_helping 48 = .ok (.iinc 3 1, 3) := dk_132 3 1 (dk_at dksX19_helping_2 0 rfl rfl)
theorem dX19_helping_51 : decode cX19_helping 51 = .ok (.goto (-47), 3) := dk_167 255 209 (dk_at dksX19_helping_2 3 rfl rfl)
theorem dX19_helping_54 : decode cX19_helping 54 = .ok (.iload_n 2, 1) := dk_28 (dk_at dksX19_helping_2 6 rfl rfl)
theorem dX19_helping_55 : decode cX19_helping 55 = .ok (.ireturn, 1) := dk_172 (dk_at dksX19_helping_2 7 rfl rfl)
abbrev cX19_stopping : ByteArray := prog_37_method_12_code
def yX19_stopping : MethodName := ⟨RX19, "stopping", "(II)I"⟩
def dkwX19_stopping_4 : List UInt8 := [21, 4, 167, 0, 4, 29, 62, 132, 4, 1, 167, 255, 157, 29, 172]
abbrev dktX19_stopping_4 : List UInt8 := dkwX19_stopping_4 ++ []
def dkwX19_stopping_3 : List UInt8 := [22, 5, 9, 148, 154, 0, 24, 42, 180, 0, 15, 21, 4, 46, 42, 180, 0, 15, 29, 46, 162, 0, 8]
abbrev dktX19_stopping_3 : List UInt8 := dkwX19_stopping_3 ++ dktX19_stopping_4
def dkwX19_stopping_2 : List UInt8 := [29, 3, 182, 0, 33, 42, 21, 4, 27, 182, 0, 33, 105, 101, 55, 5, 22, 5, 9, 148, 155, 0, 26]
abbrev dktX19_stopping_2 : List UInt8 := dkwX19_stopping_2 ++ dktX19_stopping_3
def dkwX19_stopping_1 : List UInt8 := [156, 0, 9, 20, 0, 57, 167, 0, 32, 42, 21, 4, 3, 182, 0, 33, 42, 29, 27, 182, 0, 33, 105, 42]
abbrev dktX19_stopping_1 : List UInt8 := dkwX19_stopping_1 ++ dktX19_stopping_2
def dkwX19_stopping_0 : List UInt8 := [2, 62, 3, 54, 4, 21, 4, 28, 162, 0, 99, 42, 21, 4, 27, 182, 0, 33, 9, 148, 158, 0, 81, 29]
abbrev dktX19_stopping_0 : List UInt8 := dkwX19_stopping_0 ++ dktX19_stopping_1
theorem dksX19_stopping_0 : cX19_stopping.data.toList.drop 0 = dktX19_stopping_0 := by decide +kernel
theorem dksX19_stopping_1 : cX19_stopping.data.toList.drop 24 = dktX19_stopping_1 := dk_seg dksX19_stopping_0 24 rfl rfl
theorem dksX19_stopping_2 : cX19_stopping.data.toList.drop 48 = dktX19_stopping_2 := dk_seg dksX19_stopping_1 24 rfl rfl
theorem dksX19_stopping_3 : cX19_stopping.data.toList.drop 71 = dktX19_stopping_3 := dk_seg dksX19_stopping_2 23 rfl rfl
theorem dksX19_stopping_4 : cX19_stopping.data.toList.drop 94 = dktX19_stopping_4 := dk_seg dksX19_stopping_3 23 rfl rfl
theorem dX19_stopping_0 : decode cX19_stopping 0 = .ok (.iconst (-1), 1) := dk_2 (dk_at dksX19_stopping_0 0 rfl rfl)
theorem dX19_stopping_1 : decode cX19_stopping 1 = .ok (.istore_n 3, 1) := dk_62 (dk_at dksX19_stopping_0 1 rfl rfl)
theorem dX19_stopping_2 : decode cX19_stopping 2 = .ok (.iconst 0, 1) := dk_3 (dk_at dksX19_stopping_0 2 rfl rfl)
theorem dX19_stopping_3 : decode cX19_stopping 3 = .ok (.istore 4, 2) := dk_54 4 (dk_at dksX19_stopping_0 3 rfl rfl)
theorem dX19_stopping_5 : decode cX19_stopping 5 = .ok (.iload 4, 2) := dk_21 4 (dk_at dksX19_stopping_0 5 rfl rfl)
theorem dX19_stopping_7 : decode cX19_stopping 7 = .ok (.iload_n 2, 1) := dk_28 (dk_at dksX19_stopping_0 7 rfl rfl)
theorem dX19_stopping_8 : decode cX19_stopping 8 = .ok (.if_icmp .ge 99, 3) := dk_162 0 99 (dk_at dksX19_stopping_0 8 rfl rfl)
theorem dX19_stopping_11 : decode cX19_stopping 11 = .ok (.aload_n 0, 1) := dk_42 (dk_at dksX19_stopping_0 11 rfl rfl)
theorem dX19_stopping_12 : decode cX19_stopping 12 = .ok (.iload 4, 2) := dk_21 4 (dk_at dksX19_stopping_0 12 rfl rfl)
theorem dX19_stopping_14 : decode cX19_stopping 14 = .ok (.iload_n 1, 1) := dk_27 (dk_at dksX19_stopping_0 14 rfl rfl)
theorem dX19_stopping_15 : decode cX19_stopping 15 = .ok (.invokevirtual 33, 3) := dk_182 0 33 (dk_at dksX19_stopping_0 15 rfl rfl)
theorem dX19_stopping_18 : decode cX19_stopping 18 = .ok (.lconst 0, 1) := dk_9 (dk_at dksX19_stopping_0 18 rfl rfl)
theorem dX19_stopping_19 : decode cX19_stopping 19 = .ok (.lcmp, 1) := dk_148 (dk_at dksX19_stopping_0 19 rfl rfl)
theorem dX19_stopping_20 : decode cX19_stopping 20 = .ok (.ifCond .le 81, 3) := dk_158 0 81 (dk_at dksX19_stopping_0 20 rfl rfl)
theorem dX19_stopping_23 : decode cX19_stopping 23 = .ok (.iload_n 3, 1) := dk_29 (dk_at dksX19_stopping_0 23 rfl rfl)
theorem dX19_stopping_24 : decode cX19_stopping 24 = .ok (.ifCond .ge 9, 3) := dk_156 0 9 (dk_at dksX19_stopping_1 0 rfl rfl)
theorem dX19_stopping_27 : decode cX19_stopping 27 = .ok (.ldc2_w 57, 3) := dk_20 0 57 (dk_at dksX19_stopping_1 3 rfl rfl)
theorem dX19_stopping_30 : decode cX19_stopping 30 = .ok (.goto 32, 3) := dk_167 0 32 (dk_at dksX19_stopping_1 6 rfl rfl)
theorem dX19_stopping_33 : decode cX19_stopping 33 = .ok (.aload_n 0, 1) := dk_42 (dk_at dksX19_stopping_1 9 rfl rfl)
theorem dX19_stopping_34 : decode cX19_stopping 34 = .ok (.iload 4, 2) := dk_21 4 (dk_at dksX19_stopping_1 10 rfl rfl)
theorem dX19_stopping_36 : decode cX19_stopping 36 = .ok (.iconst 0, 1) := dk_3 (dk_at dksX19_stopping_1 12 rfl rfl)
theorem dX19_stopping_37 : decode cX19_stopping 37 = .ok (.invokevirtual 33, 3) := dk_182 0 33 (dk_at dksX19_stopping_1 13 rfl rfl)
theorem dX19_stopping_40 : decode cX19_stopping 40 = .ok (.aload_n 0, 1) := dk_42 (dk_at dksX19_stopping_1 16 rfl rfl)
theorem dX19_stopping_41 : decode cX19_stopping 41 = .ok (.iload_n 3, 1) := dk_29 (dk_at dksX19_stopping_1 17 rfl rfl)
theorem dX19_stopping_42 : decode cX19_stopping 42 = .ok (.iload_n 1, 1) := dk_27 (dk_at dksX19_stopping_1 18 rfl rfl)
theorem dX19_stopping_43 : decode cX19_stopping 43 = .ok (.invokevirtual 33, 3) := dk_182 0 33 (dk_at dksX19_stopping_1 19 rfl rfl)
theorem dX19_stopping_46 : decode cX19_stopping 46 = .ok (.lmul, 1) := dk_105 (dk_at dksX19_stopping_1 22 rfl rfl)
theorem dX19_stopping_47 : decode cX19_stopping 47 = .ok (.aload_n 0, 1) := dk_42 (dk_at dksX19_stopping_1 23 rfl rfl)
theorem dX19_stopping_48 : decode cX19_stopping 48 = .ok (.iload_n 3, 1) := dk_29 (dk_at dksX19_stopping_2 0 rfl rfl)
theorem dX19_stopping_49 : decode cX19_stopping 49 = .ok (.iconst 0, 1) := dk_3 (dk_at dksX19_stopping_2 1 rfl rfl)
theorem dX19_stopping_50 : decode cX19_stopping 50 = .ok (.invokevirtual 33, 3) := dk_182 0 33 (dk_at dksX19_stopping_2 2 rfl rfl)
theorem dX19_stopping_53 : decode cX19_stopping 53 = .ok (.aload_n 0, 1) := dk_42 (dk_at dksX19_stopping_2 5 rfl rfl)
theorem dX19_stopping_54 : decode cX19_stopping 54 = .ok (.iload 4, 2) := dk_21 4 (dk_at dksX19_stopping_2 6 rfl rfl)
theorem dX19_stopping_56 : decode cX19_stopping 56 = .ok (.iload_n 1, 1) := dk_27 (dk_at dksX19_stopping_2 8 rfl rfl)
theorem dX19_stopping_57 : decode cX19_stopping 57 = .ok (.invokevirtual 33, 3) := dk_182 0 33 (dk_at dksX19_stopping_2 9 rfl rfl)
theorem dX19_stopping_60 : decode cX19_stopping 60 = .ok (.lmul, 1) := dk_105 (dk_at dksX19_stopping_2 12 rfl rfl)
theorem dX19_stopping_61 : decode cX19_stopping 61 = .ok (.lsub, 1) := dk_101 (dk_at dksX19_stopping_2 13 rfl rfl)
theorem dX19_stopping_62 : decode cX19_stopping 62 = .ok (.lstore 5, 2) := dk_55 5 (dk_at dksX19_stopping_2 14 rfl rfl)
theorem dX19_stopping_64 : decode cX19_stopping 64 = .ok (.lload 5, 2) := dk_22 5 (dk_at dksX19_stopping_2 16 rfl rfl)
theorem dX19_stopping_66 : decode cX19_stopping 66 = .ok (.lconst 0, 1) := dk_9 (dk_at dksX19_stopping_2 18 rfl rfl)
theorem dX19_stopping_67 : decode cX19_stopping 67 = .ok (.lcmp, 1) := dk_148 (dk_at dksX19_stopping_2 19 rfl rfl)
theorem dX19_stopping_68 : decode cX19_stopping 68 = .ok (.ifCond .lt 26, 3) := dk_155 0 26 (dk_at dksX19_stopping_2 20 rfl rfl)
theorem dX19_stopping_71 : decode cX19_stopping 71 = .ok (.lload 5, 2) := dk_22 5 (dk_at dksX19_stopping_3 0 rfl rfl)
theorem dX19_stopping_73 : decode cX19_stopping 73 = .ok (.lconst 0, 1) := dk_9 (dk_at dksX19_stopping_3 2 rfl rfl)
theorem dX19_stopping_74 : decode cX19_stopping 74 = .ok (.lcmp, 1) := dk_148 (dk_at dksX19_stopping_3 3 rfl rfl)
theorem dX19_stopping_75 : decode cX19_stopping 75 = .ok (.ifCond .ne 24, 3) := dk_154 0 24 (dk_at dksX19_stopping_3 4 rfl rfl)
theorem dX19_stopping_78 : decode cX19_stopping 78 = .ok (.aload_n 0, 1) := dk_42 (dk_at dksX19_stopping_3 7 rfl rfl)
theorem dX19_stopping_79 : decode cX19_stopping 79 = .ok (.getfield 15, 3) := dk_180 0 15 (dk_at dksX19_stopping_3 8 rfl rfl)
theorem dX19_stopping_82 : decode cX19_stopping 82 = .ok (.iload 4, 2) := dk_21 4 (dk_at dksX19_stopping_3 11 rfl rfl)
theorem dX19_stopping_84 : decode cX19_stopping 84 = .ok (.iaload, 1) := dk_46 (dk_at dksX19_stopping_3 13 rfl rfl)
theorem dX19_stopping_85 : decode cX19_stopping 85 = .ok (.aload_n 0, 1) := dk_42 (dk_at dksX19_stopping_3 14 rfl rfl)
theorem dX19_stopping_86 : decode cX19_stopping 86 = .ok (.getfield 15, 3) := dk_180 0 15 (dk_at dksX19_stopping_3 15 rfl rfl)
theorem dX19_stopping_89 : decode cX19_stopping 89 = .ok (.iload_n 3, 1) := dk_29 (dk_at dksX19_stopping_3 18 rfl rfl)
theorem dX19_stopping_90 : decode cX19_stopping 90 = .ok (.iaload, 1) := dk_46 (dk_at dksX19_stopping_3 19 rfl rfl)
theorem dX19_stopping_91 : decode cX19_stopping 91 = .ok (.if_icmp .ge 8, 3) := dk_162 0 8 (dk_at dksX19_stopping_3 20 rfl rfl)
theorem dX19_stopping_94 : decode cX19_stopping 94 = .ok (.iload 4, 2) := dk_21 4 (dk_at dksX19_stopping_4 0 rfl rfl)
theorem dX19_stopping_96 : decode cX19_stopping 96 = .ok (.goto 4, 3) := dk_167 0 4 (dk_at dksX19_stopping_4 2 rfl rfl)
theorem dX19_stopping_99 : decode cX19_stopping 99 = .ok (.iload_n 3, 1) := dk_29 (dk_at dksX19_stopping_4 5 rfl rfl)
theorem dX19_stopping_100 : decode cX19_stopping 100 = .ok (.istore_n 3, 1) := dk_62 (dk_at dksX19_stopping_4 6 rfl rfl)
theorem dX19_stopping_101 : decode cX19_stopping 101 = .ok (.iinc 4 1, 3) := dk_132 4 1 (dk_at dksX19_stopping_4 7 rfl rfl)
theorem dX19_stopping_104 : decode cX19_stopping 104 = .ok (.goto (-99), 3) := dk_167 255 157 (dk_at dksX19_stopping_4 10 rfl rfl)
theorem dX19_stopping_107 : decode cX19_stopping 107 = .ok (.iload_n 3, 1) := dk_29 (dk_at dksX19_stopping_4 13 rfl rfl)
theorem dX19_stopping_108 : decode cX19_stopping 108 = .ok (.ireturn, 1) := dk_172 (dk_at dksX19_stopping_4 14 rfl rfl)
abbrev cX19_leave : ByteArray := prog_37_method_9_code
def yX19_leave : MethodName := ⟨RX19, "leave", "(II)V"⟩
def dkwX19_leave_6 : List UInt8 := [167, 255, 195, 177]
abbrev dktX19_leave_6 : List UInt8 := dkwX19_leave_6 ++ []
def dkwX19_leave_5 : List UInt8 := [21, 4, 42, 21, 5, 21, 4, 4, 96, 182, 0, 33, 182, 0, 37, 132, 5, 1, 167, 255, 229, 132, 4, 1]
abbrev dktX19_leave_5 : List UInt8 := dkwX19_leave_5 ++ dktX19_leave_6
def dkwX19_leave_4 : List UInt8 := [21, 4, 42, 180, 0, 19, 21, 4, 4, 96, 46, 79, 3, 54, 5, 21, 5, 27, 163, 0, 27, 42, 21, 5]
abbrev dktX19_leave_4 : List UInt8 := dkwX19_leave_4 ++ dktX19_leave_5
def dkwX19_leave_3 : List UInt8 := [180, 0, 22, 4, 100, 181, 0, 22, 29, 54, 4, 21, 4, 42, 180, 0, 22, 162, 0, 58, 42, 180, 0, 19]
abbrev dktX19_leave_3 : List UInt8 := dkwX19_leave_3 ++ dktX19_leave_4
def dkwX19_leave_2 : List UInt8 := [167, 255, 210, 4, 62, 42, 180, 0, 19, 29, 46, 28, 159, 0, 9, 132, 3, 1, 167, 255, 243, 42, 89]
abbrev dktX19_leave_2 : List UInt8 := dkwX19_leave_2 ++ dktX19_leave_3
def dkwX19_leave_1 : List UInt8 := [182, 0, 33, 9, 148, 154, 0, 9, 132, 4, 1, 167, 255, 241, 42, 29, 21, 4, 182, 0, 63, 132, 3, 1]
abbrev dktX19_leave_1 : List UInt8 := dkwX19_leave_1 ++ dktX19_leave_2
def dkwX19_leave_0 : List UInt8 := [3, 62, 29, 27, 162, 0, 47, 42, 180, 0, 15, 29, 46, 28, 160, 0, 31, 4, 54, 4, 42, 29, 21, 4]
abbrev dktX19_leave_0 : List UInt8 := dkwX19_leave_0 ++ dktX19_leave_1
theorem dksX19_leave_0 : cX19_leave.data.toList.drop 0 = dktX19_leave_0 := by decide +kernel
theorem dksX19_leave_1 : cX19_leave.data.toList.drop 24 = dktX19_leave_1 := dk_seg dksX19_leave_0 24 rfl rfl
theorem dksX19_leave_2 : cX19_leave.data.toList.drop 48 = dktX19_leave_2 := dk_seg dksX19_leave_1 24 rfl rfl
theorem dksX19_leave_3 : cX19_leave.data.toList.drop 71 = dktX19_leave_3 := dk_seg dksX19_leave_2 23 rfl rfl
theorem dksX19_leave_4 : cX19_leave.data.toList.drop 95 = dktX19_leave_4 := dk_seg dksX19_leave_3 24 rfl rfl
theorem dksX19_leave_5 : cX19_leave.data.toList.drop 119 = dktX19_leave_5 := dk_seg dksX19_leave_4 24 rfl rfl
theorem dksX19_leave_6 : cX19_leave.data.toList.drop 143 = dktX19_leave_6 := dk_seg dksX19_leave_5 24 rfl rfl
theorem dX19_leave_0 : decode cX19_leave 0 = .ok (.iconst 0, 1) := dk_3 (dk_at dksX19_leave_0 0 rfl rfl)
theorem dX19_leave_1 : decode cX19_leave 1 = .ok (.istore_n 3, 1) := dk_62 (dk_at dksX19_leave_0 1 rfl rfl)
theorem dX19_leave_2 : decode cX19_leave 2 = .ok (.iload_n 3, 1) := dk_29 (dk_at dksX19_leave_0 2 rfl rfl)
theorem dX19_leave_3 : decode cX19_leave 3 = .ok (.iload_n 1, 1) := dk_27 (dk_at dksX19_leave_0 3 rfl rfl)
theorem dX19_leave_4 : decode cX19_leave 4 = .ok (.if_icmp .ge 47, 3) := dk_162 0 47 (dk_at dksX19_leave_0 4 rfl rfl)
theorem dX19_leave_7 : decode cX19_leave 7 = .ok (.aload_n 0, 1) := dk_42 (dk_at dksX19_leave_0 7 rfl rfl)
theorem dX19_leave_8 : decode cX19_leave 8 = .ok (.getfield 15, 3) := dk_180 0 15 (dk_at dksX19_leave_0 8 rfl rfl)
theorem dX19_leave_11 : decode cX19_leave 11 = .ok (.iload_n 3, 1) := dk_29 (dk_at dksX19_leave_0 11 rfl rfl)
theorem dX19_leave_12 : decode cX19_leave 12 = .ok (.iaload, 1) := dk_46 (dk_at dksX19_leave_0 12 rfl rfl)
theorem dX19_leave_13 : decode cX19_leave 13 = .ok (.iload_n 2, 1) := dk_28 (dk_at dksX19_leave_0 13 rfl rfl)
theorem dX19_leave_14 : decode cX19_leave 14 = .ok (.if_icmp .ne 31, 3) := dk_160 0 31 (dk_at dksX19_leave_0 14 rfl rfl)
theorem dX19_leave_17 : decode cX19_leave 17 = .ok (.iconst 1, 1) := dk_4 (dk_at dksX19_leave_0 17 rfl rfl)
theorem dX19_leave_18 : decode cX19_leave 18 = .ok (.istore 4, 2) := dk_54 4 (dk_at dksX19_leave_0 18 rfl rfl)
theorem dX19_leave_20 : decode cX19_leave 20 = .ok (.aload_n 0, 1) := dk_42 (dk_at dksX19_leave_0 20 rfl rfl)
theorem dX19_leave_21 : decode cX19_leave 21 = .ok (.iload_n 3, 1) := dk_29 (dk_at dksX19_leave_0 21 rfl rfl)
theorem dX19_leave_22 : decode cX19_leave 22 = .ok (.iload 4, 2) := dk_21 4 (dk_at dksX19_leave_0 22 rfl rfl)
theorem dX19_leave_24 : decode cX19_leave 24 = .ok (.invokevirtual 33, 3) := dk_182 0 33 (dk_at dksX19_leave_1 0 rfl rfl)
theorem dX19_leave_27 : decode cX19_leave 27 = .ok (.lconst 0, 1) := dk_9 (dk_at dksX19_leave_1 3 rfl rfl)
theorem dX19_leave_28 : decode cX19_leave 28 = .ok (.lcmp, 1) := dk_148 (dk_at dksX19_leave_1 4 rfl rfl)
theorem dX19_leave_29 : decode cX19_leave 29 = .ok (.ifCond .ne 9, 3) := dk_154 0 9 (dk_at dksX19_leave_1 5 rfl rfl)
theorem dX19_leave_32 : decode cX19_leave 32 = .ok (.iinc 4 1, 3) := dk_132 4 1 (dk_at dksX19_leave_1 8 rfl rfl)
theorem dX19_leave_35 : decode cX19_leave 35 = .ok (.goto (-15), 3) := dk_167 255 241 (dk_at dksX19_leave_1 11 rfl rfl)
theorem dX19_leave_38 : decode cX19_leave 38 = .ok (.aload_n 0, 1) := dk_42 (dk_at dksX19_leave_1 14 rfl rfl)
theorem dX19_leave_39 : decode cX19_leave 39 = .ok (.iload_n 3, 1) := dk_29 (dk_at dksX19_leave_1 15 rfl rfl)
theorem dX19_leave_40 : decode cX19_leave 40 = .ok (.iload 4, 2) := dk_21 4 (dk_at dksX19_leave_1 16 rfl rfl)
theorem dX19_leave_42 : decode cX19_leave 42 = .ok (.invokevirtual 63, 3) := dk_182 0 63 (dk_at dksX19_leave_1 18 rfl rfl)
theorem dX19_leave_45 : decode cX19_leave 45 = .ok (.iinc 3 1, 3) := dk_132 3 1 (dk_at dksX19_leave_1 21 rfl rfl)
theorem dX19_leave_48 : decode cX19_leave 48 = .ok (.goto (-46), 3) := dk_167 255 210 (dk_at dksX19_leave_2 0 rfl rfl)
theorem dX19_leave_51 : decode cX19_leave 51 = .ok (.iconst 1, 1) := dk_4 (dk_at dksX19_leave_2 3 rfl rfl)
theorem dX19_leave_52 : decode cX19_leave 52 = .ok (.istore_n 3, 1) := dk_62 (dk_at dksX19_leave_2 4 rfl rfl)
theorem dX19_leave_53 : decode cX19_leave 53 = .ok (.aload_n 0, 1) := dk_42 (dk_at dksX19_leave_2 5 rfl rfl)
theorem dX19_leave_54 : decode cX19_leave 54 = .ok (.getfield 19, 3) := dk_180 0 19 (dk_at dksX19_leave_2 6 rfl rfl)
theorem dX19_leave_57 : decode cX19_leave 57 = .ok (.iload_n 3, 1) := dk_29 (dk_at dksX19_leave_2 9 rfl rfl)
theorem dX19_leave_58 : decode cX19_leave 58 = .ok (.iaload, 1) := dk_46 (dk_at dksX19_leave_2 10 rfl rfl)
theorem dX19_leave_59 : decode cX19_leave 59 = .ok (.iload_n 2, 1) := dk_28 (dk_at dksX19_leave_2 11 rfl rfl)
theorem dX19_leave_60 : decode cX19_leave 60 = .ok (.if_icmp .eq 9, 3) := dk_159 0 9 (dk_at dksX19_leave_2 12 rfl rfl)
theorem dX19_leave_63 : decode cX19_leave 63 = .ok (.iinc 3 1, 3) := dk_132 3 1 (dk_at dksX19_leave_2 15 rfl rfl)
theorem dX19_leave_66 : decode cX19_leave 66 = .ok (.goto (-13), 3) := dk_167 255 243 (dk_at dksX19_leave_2 18 rfl rfl)
theorem dX19_leave_69 : decode cX19_leave 69 = .ok (.aload_n 0, 1) := dk_42 (dk_at dksX19_leave_2 21 rfl rfl)
theorem dX19_leave_70 : decode cX19_leave 70 = .ok (.dup, 1) := dk_89 (dk_at dksX19_leave_2 22 rfl rfl)
theorem dX19_leave_71 : decode cX19_leave 71 = .ok (.getfield 22, 3) := dk_180 0 22 (dk_at dksX19_leave_3 0 rfl rfl)
theorem dX19_leave_74 : decode cX19_leave 74 = .ok (.iconst 1, 1) := dk_4 (dk_at dksX19_leave_3 3 rfl rfl)
theorem dX19_leave_75 : decode cX19_leave 75 = .ok (.isub, 1) := dk_100 (dk_at dksX19_leave_3 4 rfl rfl)
theorem dX19_leave_76 : decode cX19_leave 76 = .ok (.putfield 22, 3) := dk_181 0 22 (dk_at dksX19_leave_3 5 rfl rfl)
theorem dX19_leave_79 : decode cX19_leave 79 = .ok (.iload_n 3, 1) := dk_29 (dk_at dksX19_leave_3 8 rfl rfl)
theorem dX19_leave_80 : decode cX19_leave 80 = .ok (.istore 4, 2) := dk_54 4 (dk_at dksX19_leave_3 9 rfl rfl)
theorem dX19_leave_82 : decode cX19_leave 82 = .ok (.iload 4, 2) := dk_21 4 (dk_at dksX19_leave_3 11 rfl rfl)
theorem dX19_leave_84 : decode cX19_leave 84 = .ok (.aload_n 0, 1) := dk_42 (dk_at dksX19_leave_3 13 rfl rfl)
theorem dX19_leave_85 : decode cX19_leave 85 = .ok (.getfield 22, 3) := dk_180 0 22 (dk_at dksX19_leave_3 14 rfl rfl)
theorem dX19_leave_88 : decode cX19_leave 88 = .ok (.if_icmp .ge 58, 3) := dk_162 0 58 (dk_at dksX19_leave_3 17 rfl rfl)
theorem dX19_leave_91 : decode cX19_leave 91 = .ok (.aload_n 0, 1) := dk_42 (dk_at dksX19_leave_3 20 rfl rfl)
theorem dX19_leave_92 : decode cX19_leave 92 = .ok (.getfield 19, 3) := dk_180 0 19 (dk_at dksX19_leave_3 21 rfl rfl)
theorem dX19_leave_95 : decode cX19_leave 95 = .ok (.iload 4, 2) := dk_21 4 (dk_at dksX19_leave_4 0 rfl rfl)
theorem dX19_leave_97 : decode cX19_leave 97 = .ok (.aload_n 0, 1) := dk_42 (dk_at dksX19_leave_4 2 rfl rfl)
theorem dX19_leave_98 : decode cX19_leave 98 = .ok (.getfield 19, 3) := dk_180 0 19 (dk_at dksX19_leave_4 3 rfl rfl)
theorem dX19_leave_101 : decode cX19_leave 101 = .ok (.iload 4, 2) := dk_21 4 (dk_at dksX19_leave_4 6 rfl rfl)
theorem dX19_leave_103 : decode cX19_leave 103 = .ok (.iconst 1, 1) := dk_4 (dk_at dksX19_leave_4 8 rfl rfl)
theorem dX19_leave_104 : decode cX19_leave 104 = .ok (.iadd, 1) := dk_96 (dk_at dksX19_leave_4 9 rfl rfl)
theorem dX19_leave_105 : decode cX19_leave 105 = .ok (.iaload, 1) := dk_46 (dk_at dksX19_leave_4 10 rfl rfl)
theorem dX19_leave_106 : decode cX19_leave 106 = .ok (.iastore, 1) := dk_79 (dk_at dksX19_leave_4 11 rfl rfl)
theorem dX19_leave_107 : decode cX19_leave 107 = .ok (.iconst 0, 1) := dk_3 (dk_at dksX19_leave_4 12 rfl rfl)
theorem dX19_leave_108 : decode cX19_leave 108 = .ok (.istore 5, 2) := dk_54 5 (dk_at dksX19_leave_4 13 rfl rfl)
theorem dX19_leave_110 : decode cX19_leave 110 = .ok (.iload 5, 2) := dk_21 5 (dk_at dksX19_leave_4 15 rfl rfl)
theorem dX19_leave_112 : decode cX19_leave 112 = .ok (.iload_n 1, 1) := dk_27 (dk_at dksX19_leave_4 17 rfl rfl)
theorem dX19_leave_113 : decode cX19_leave 113 = .ok (.if_icmp .gt 27, 3) := dk_163 0 27 (dk_at dksX19_leave_4 18 rfl rfl)
theorem dX19_leave_116 : decode cX19_leave 116 = .ok (.aload_n 0, 1) := dk_42 (dk_at dksX19_leave_4 21 rfl rfl)
theorem dX19_leave_117 : decode cX19_leave 117 = .ok (.iload 5, 2) := dk_21 5 (dk_at dksX19_leave_4 22 rfl rfl)
theorem dX19_leave_119 : decode cX19_leave 119 = .ok (.iload 4, 2) := dk_21 4 (dk_at dksX19_leave_5 0 rfl rfl)
theorem dX19_leave_121 : decode cX19_leave 121 = .ok (.aload_n 0, 1) := dk_42 (dk_at dksX19_leave_5 2 rfl rfl)
theorem dX19_leave_122 : decode cX19_leave 122 = .ok (.iload 5, 2) := dk_21 5 (dk_at dksX19_leave_5 3 rfl rfl)
theorem dX19_leave_124 : decode cX19_leave 124 = .ok (.iload 4, 2) := dk_21 4 (dk_at dksX19_leave_5 5 rfl rfl)
theorem dX19_leave_126 : decode cX19_leave 126 = .ok (.iconst 1, 1) := dk_4 (dk_at dksX19_leave_5 7 rfl rfl)
theorem dX19_leave_127 : decode cX19_leave 127 = .ok (.iadd, 1) := dk_96 (dk_at dksX19_leave_5 8 rfl rfl)
theorem dX19_leave_128 : decode cX19_leave 128 = .ok (.invokevirtual 33, 3) := dk_182 0 33 (dk_at dksX19_leave_5 9 rfl rfl)
theorem dX19_leave_131 : decode cX19_leave 131 = .ok (.invokevirtual 37, 3) := dk_182 0 37 (dk_at dksX19_leave_5 12 rfl rfl)
theorem dX19_leave_134 : decode cX19_leave 134 = .ok (.iinc 5 1, 3) := dk_132 5 1 (dk_at dksX19_leave_5 15 rfl rfl)
theorem dX19_leave_137 : decode cX19_leave 137 = .ok (.goto (-27), 3) := dk_167 255 229 (dk_at dksX19_leave_5 18 rfl rfl)
theorem dX19_leave_140 : decode cX19_leave 140 = .ok (.iinc 4 1, 3) := dk_132 4 1 (dk_at dksX19_leave_5 21 rfl rfl)
theorem dX19_leave_143 : decode cX19_leave 143 = .ok (.goto (-61), 3) := dk_167 255 195 (dk_at dksX19_leave_6 0 rfl rfl)
theorem dX19_leave_146 : decode cX19_leave 146 = .ok (.return_, 1) := dk_177 (dk_at dksX19_leave_6 3 rfl rfl)
theorem q418 : (Jvm.Cond.initialized "WasteHouse$RoundColumns$Corner") ∈ lw_all := lw_g (lw_at lw_m1 26 rfl) rfl
theorem q1173 : (Jvm.Cond.instantiable "WasteHouse$RoundColumns$Corner" (6 : Nat)) ∈ lw_all := lw_g (lw_at lw_m4 61 rfl) rfl
theorem q1175 : (Jvm.Cond.instanceMethod ({ cls := "WasteHouse$RoundColumns$Corner", name := "<init>", desc := "()V" } : Jvm.MethodName)) ∈ lw_all := lw_g (lw_at lw_m4 63 rfl) rfl
theorem q1176 : (Jvm.Cond.code ({ cls := "WasteHouse$RoundColumns$Corner", name := "<init>", desc := "()V" } : Jvm.MethodName) prog_37_method_1_code (1 : Nat) (Option.none : Option Jvm.ClassFile.FieldType)) ∈ lw_all := lw_g (lw_at lw_m4 64 rfl) rfl
theorem q1177 : (Jvm.Cond.methodLink "WasteHouse$RoundColumns$Corner" (3 : Nat) ({ cls := "java/lang/Object", name := "<init>", desc := "()V" } : Jvm.MethodName)) ∈ lw_all := lw_g (lw_at lw_m4 65 rfl) rfl
theorem q1178 : (Jvm.Cond.fieldLink "WasteHouse$RoundColumns$Corner" (9 : Nat) "WasteHouse$RoundColumns$Corner" "cells" "[J") ∈ lw_all := lw_g (lw_at lw_m4 66 rfl) rfl
theorem q1179 : (Jvm.Cond.fieldLink "WasteHouse$RoundColumns$Corner" (15 : Nat) "WasteHouse$RoundColumns$Corner" "atRow" "[I") ∈ lw_all := lw_g (lw_at lw_m4 67 rfl) rfl
theorem q1180 : (Jvm.Cond.fieldLink "WasteHouse$RoundColumns$Corner" (19 : Nat) "WasteHouse$RoundColumns$Corner" "atColumn" "[I") ∈ lw_all := lw_g (lw_at lw_m4 68 rfl) rfl
theorem q1181 : (Jvm.Cond.fieldLink "WasteHouse$RoundColumns$Corner" (26 : Nat) "WasteHouse$RoundColumns$Corner" "rows" "I") ∈ lw_all := lw_g (lw_at lw_m4 69 rfl) rfl
theorem q1182 : (Jvm.Cond.fieldLink "WasteHouse$RoundColumns$Corner" (22 : Nat) "WasteHouse$RoundColumns$Corner" "columns" "I") ∈ lw_all := lw_g (lw_at lw_m4 70 rfl) rfl
theorem q1183 : (Jvm.Cond.fieldLink "WasteHouse$RoundColumns$Corner" (29 : Nat) "WasteHouse$RoundColumns$Corner" "under" "J") ∈ lw_all := lw_g (lw_at lw_m4 71 rfl) rfl
theorem q1184 : (Jvm.Cond.laysFinal "WasteHouse$RoundColumns$Corner" "WasteHouse$RoundColumns$Corner" "cells" "[J") ∈ lw_all := lw_g (lw_at lw_m4 72 rfl) rfl
theorem q1185 : (Jvm.Cond.soleField "WasteHouse$RoundColumns$Corner" "cells") ∈ lw_all := lw_g (lw_at lw_m4 73 rfl) rfl
theorem q1186 : (Jvm.Cond.laysFinal "WasteHouse$RoundColumns$Corner" "WasteHouse$RoundColumns$Corner" "atRow" "[I") ∈ lw_all := lw_g (lw_at lw_m4 74 rfl) rfl
theorem q1187 : (Jvm.Cond.soleField "WasteHouse$RoundColumns$Corner" "atRow") ∈ lw_all := lw_g (lw_at lw_m4 75 rfl) rfl
theorem q1188 : (Jvm.Cond.laysFinal "WasteHouse$RoundColumns$Corner" "WasteHouse$RoundColumns$Corner" "atColumn" "[I") ∈ lw_all := lw_g (lw_at lw_m4 76 rfl) rfl
theorem q1189 : (Jvm.Cond.soleField "WasteHouse$RoundColumns$Corner" "atColumn") ∈ lw_all := lw_g (lw_at lw_m4 77 rfl) rfl
theorem q1190 : (Jvm.Cond.lays "WasteHouse$RoundColumns$Corner" "WasteHouse$RoundColumns$Corner" "rows" "I") ∈ lw_all := lw_g (lw_at lw_m4 78 rfl) rfl
theorem q1191 : (Jvm.Cond.soleField "WasteHouse$RoundColumns$Corner" "rows") ∈ lw_all := lw_g (lw_at lw_m4 79 rfl) rfl
theorem q1192 : (Jvm.Cond.lays "WasteHouse$RoundColumns$Corner" "WasteHouse$RoundColumns$Corner" "columns" "I") ∈ lw_all := lw_g (lw_at lw_m4 80 rfl) rfl
theorem q1193 : (Jvm.Cond.soleField "WasteHouse$RoundColumns$Corner" "columns") ∈ lw_all := lw_g (lw_at lw_m4 81 rfl) rfl
theorem q1194 : (Jvm.Cond.lays "WasteHouse$RoundColumns$Corner" "WasteHouse$RoundColumns$Corner" "under" "J") ∈ lw_all := lw_g (lw_at lw_m4 82 rfl) rfl
theorem q1195 : (Jvm.Cond.soleField "WasteHouse$RoundColumns$Corner" "under") ∈ lw_all := lw_g (lw_at lw_m4 83 rfl) rfl
theorem q1196 : (Jvm.Cond.superclass "WasteHouse$RoundColumns$Corner" "java/lang/Object") ∈ lw_all := lw_g (lw_at lw_m4 84 rfl) rfl
theorem q2006 : (Jvm.Cond.selects "WasteHouse$RoundColumns$Corner" ({ cls := "java/lang/Object", name := "getClass", desc := "()Ljava/lang/Class;" } : Jvm.MethodName) ({ cls := "java/lang/Object", name := "getClass", desc := "()Ljava/lang/Class;" } : Jvm.MethodName)) ∈ lw_all := lw_g (lw_at lw_m7 174 rfl) rfl
theorem q3116 : (Jvm.Cond.selects "WasteHouse$RoundColumns$Corner" ({ cls := "java/lang/Object", name := "equals", desc := "(Ljava/lang/Object;)Z" } : Jvm.MethodName) ({ cls := "java/lang/Object", name := "equals", desc := "(Ljava/lang/Object;)Z" } : Jvm.MethodName)) ∈ lw_all := lw_g (lw_at lw_m12 84 rfl) rfl
theorem q3634 : (Jvm.Cond.selects "WasteHouse$RoundColumns$Corner" ({ cls := "java/lang/Object", name := "hashCode", desc := "()I" } : Jvm.MethodName) ({ cls := "java/lang/Object", name := "hashCode", desc := "()I" } : Jvm.MethodName)) ∈ lw_all := lw_g (lw_at lw_m14 122 rfl) rfl
theorem q6132 : (Jvm.Cond.instanceMethod ({ cls := "WasteHouse$RoundColumns$Corner", name := "begin", desc := "(I)V" } : Jvm.MethodName)) ∈ lw_all := lw_g (lw_at lw_m24 220 rfl) rfl
theorem q6133 : (Jvm.Cond.selects "WasteHouse$RoundColumns$Corner" ({ cls := "WasteHouse$RoundColumns$Corner", name := "begin", desc := "(I)V" } : Jvm.MethodName) ({ cls := "WasteHouse$RoundColumns$Corner", name := "begin", desc := "(I)V" } : Jvm.MethodName)) ∈ lw_all := lw_g (lw_at lw_m24 221 rfl) rfl
theorem q6134 : (Jvm.Cond.code ({ cls := "WasteHouse$RoundColumns$Corner", name := "begin", desc := "(I)V" } : Jvm.MethodName) prog_37_method_2_code (2 : Nat) (Option.none : Option Jvm.ClassFile.FieldType)) ∈ lw_all := lw_g (lw_at lw_m24 222 rfl) rfl
theorem q6136 : (Jvm.Cond.instanceMethod ({ cls := "WasteHouse$RoundColumns$Corner", name := "row", desc := "(J)I" } : Jvm.MethodName)) ∈ lw_all := lw_g (lw_at lw_m24 224 rfl) rfl
theorem q6137 : (Jvm.Cond.selects "WasteHouse$RoundColumns$Corner" ({ cls := "WasteHouse$RoundColumns$Corner", name := "row", desc := "(J)I" } : Jvm.MethodName) ({ cls := "WasteHouse$RoundColumns$Corner", name := "row", desc := "(J)I" } : Jvm.MethodName)) ∈ lw_all := lw_g (lw_at lw_m24 225 rfl) rfl
theorem q6138 : (Jvm.Cond.code ({ cls := "WasteHouse$RoundColumns$Corner", name := "row", desc := "(J)I" } : Jvm.MethodName) prog_37_method_4_code (4 : Nat) (Option.some Jvm.ClassFile.FieldType.int)) ∈ lw_all := lw_g (lw_at lw_m24 226 rfl) rfl
theorem q6145 : (Jvm.Cond.instanceMethod ({ cls := "WasteHouse$RoundColumns$Corner", name := "set", desc := "(IIJ)V" } : Jvm.MethodName)) ∈ lw_all := lw_g (lw_at lw_m24 233 rfl) rfl
theorem q6146 : (Jvm.Cond.selects "WasteHouse$RoundColumns$Corner" ({ cls := "WasteHouse$RoundColumns$Corner", name := "set", desc := "(IIJ)V" } : Jvm.MethodName) ({ cls := "WasteHouse$RoundColumns$Corner", name := "set", desc := "(IIJ)V" } : Jvm.MethodName)) ∈ lw_all := lw_g (lw_at lw_m24 234 rfl) rfl
theorem q6147 : (Jvm.Cond.code ({ cls := "WasteHouse$RoundColumns$Corner", name := "set", desc := "(IIJ)V" } : Jvm.MethodName) prog_37_method_5_code (5 : Nat) (Option.none : Option Jvm.ClassFile.FieldType)) ∈ lw_all := lw_g (lw_at lw_m24 235 rfl) rfl
theorem q6149 : (Jvm.Cond.instanceMethod ({ cls := "WasteHouse$RoundColumns$Corner", name := "solve", desc := "(LWasteHouse$RoundColumns$Ratio;)V" } : Jvm.MethodName)) ∈ lw_all := lw_g (lw_at lw_m24 237 rfl) rfl
theorem q6150 : (Jvm.Cond.selects "WasteHouse$RoundColumns$Corner" ({ cls := "WasteHouse$RoundColumns$Corner", name := "solve", desc := "(LWasteHouse$RoundColumns$Ratio;)V" } : Jvm.MethodName) ({ cls := "WasteHouse$RoundColumns$Corner", name := "solve", desc := "(LWasteHouse$RoundColumns$Ratio;)V" } : Jvm.MethodName)) ∈ lw_all := lw_g (lw_at lw_m24 238 rfl) rfl
theorem q6151 : (Jvm.Cond.code ({ cls := "WasteHouse$RoundColumns$Corner", name := "solve", desc := "(LWasteHouse$RoundColumns$Ratio;)V" } : Jvm.MethodName) prog_37_method_7_code (4 : Nat) (Option.none : Option Jvm.ClassFile.FieldType)) ∈ lw_all := lw_g (lw_at lw_m24 239 rfl) rfl
theorem q6152 : (Jvm.Cond.methodLink "WasteHouse$RoundColumns$Corner" (41 : Nat) ({ cls := "WasteHouse$RoundColumns$Ratio", name := "clear", desc := "()V" } : Jvm.MethodName)) ∈ lw_all := lw_g (lw_at lw_m25 0 rfl) rfl
theorem q6156 : (Jvm.Cond.methodLink "WasteHouse$RoundColumns$Corner" (46 : Nat) ({ cls := "WasteHouse$RoundColumns$Corner", name := "begins", desc := "(I)Z" } : Jvm.MethodName)) ∈ lw_all := lw_g (lw_at lw_m25 4 rfl) rfl
theorem q6157 : (Jvm.Cond.privateMethod ({ cls := "WasteHouse$RoundColumns$Corner", name := "begins", desc := "(I)Z" } : Jvm.MethodName)) ∈ lw_tbl := lw_at lw_m25 5 rfl
theorem q6158 : (Jvm.Cond.instanceMethod ({ cls := "WasteHouse$RoundColumns$Corner", name := "begins", desc := "(I)Z" } : Jvm.MethodName)) ∈ lw_all := lw_g (lw_at lw_m25 6 rfl) rfl
theorem q6159 : (Jvm.Cond.code ({ cls := "WasteHouse$RoundColumns$Corner", name := "begins", desc := "(I)Z" } : Jvm.MethodName) prog_37_method_8_code (6 : Nat) (Option.some Jvm.ClassFile.FieldType.boolean)) ∈ lw_all := lw_g (lw_at lw_m25 7 rfl) rfl
theorem q6160 : (Jvm.Cond.methodLink "WasteHouse$RoundColumns$Corner" (33 : Nat) ({ cls := "WasteHouse$RoundColumns$Corner", name := "at", desc := "(II)J" } : Jvm.MethodName)) ∈ lw_all := lw_g (lw_at lw_m25 8 rfl) rfl
theorem q6161 : (Jvm.Cond.privateMethod ({ cls := "WasteHouse$RoundColumns$Corner", name := "at", desc := "(II)J" } : Jvm.MethodName)) ∈ lw_tbl := lw_at lw_m25 9 rfl
theorem q6162 : (Jvm.Cond.instanceMethod ({ cls := "WasteHouse$RoundColumns$Corner", name := "at", desc := "(II)J" } : Jvm.MethodName)) ∈ lw_all := lw_g (lw_at lw_m25 10 rfl) rfl
theorem q6163 : (Jvm.Cond.code ({ cls := "WasteHouse$RoundColumns$Corner", name := "at", desc := "(II)J" } : Jvm.MethodName) prog_37_method_3_code (3 : Nat) (Option.some Jvm.ClassFile.FieldType.long)) ∈ lw_all := lw_g (lw_at lw_m25 11 rfl) rfl
theorem q6164 : (Jvm.Cond.constantLong "WasteHouse$RoundColumns$Corner" (57 : Nat) (-1 : Int64)) ∈ lw_all := lw_g (lw_at lw_m25 12 rfl) rfl
theorem q6165 : (Jvm.Cond.methodLink "WasteHouse$RoundColumns$Corner" (37 : Nat) ({ cls := "WasteHouse$RoundColumns$Corner", name := "set", desc := "(IIJ)V" } : Jvm.MethodName)) ∈ lw_all := lw_g (lw_at lw_m25 13 rfl) rfl
theorem q6166 : (Jvm.Cond.methodLink "WasteHouse$RoundColumns$Corner" (59 : Nat) ({ cls := "WasteHouse$RoundColumns$Corner", name := "row", desc := "(J)I" } : Jvm.MethodName)) ∈ lw_all := lw_g (lw_at lw_m25 14 rfl) rfl
theorem q6167 : (Jvm.Cond.methodLink "WasteHouse$RoundColumns$Corner" (63 : Nat) ({ cls := "WasteHouse$RoundColumns$Corner", name := "swap", desc := "(II)V" } : Jvm.MethodName)) ∈ lw_all := lw_g (lw_at lw_m25 15 rfl) rfl
theorem q6168 : (Jvm.Cond.privateMethod ({ cls := "WasteHouse$RoundColumns$Corner", name := "swap", desc := "(II)V" } : Jvm.MethodName)) ∈ lw_tbl := lw_at lw_m25 16 rfl
theorem q6169 : (Jvm.Cond.instanceMethod ({ cls := "WasteHouse$RoundColumns$Corner", name := "swap", desc := "(II)V" } : Jvm.MethodName)) ∈ lw_all := lw_g (lw_at lw_m25 17 rfl) rfl
theorem q6170 : (Jvm.Cond.code ({ cls := "WasteHouse$RoundColumns$Corner", name := "swap", desc := "(II)V" } : Jvm.MethodName) prog_37_method_6_code (9 : Nat) (Option.none : Option Jvm.ClassFile.FieldType)) ∈ lw_all := lw_g (lw_at lw_m25 18 rfl) rfl
theorem q6171 : (Jvm.Cond.methodLink "WasteHouse$RoundColumns$Corner" (50 : Nat) ({ cls := "WasteHouse$RoundColumns$Corner", name := "climb", desc := "(II)V" } : Jvm.MethodName)) ∈ lw_all := lw_g (lw_at lw_m25 19 rfl) rfl
theorem q6172 : (Jvm.Cond.privateMethod ({ cls := "WasteHouse$RoundColumns$Corner", name := "climb", desc := "(II)V" } : Jvm.MethodName)) ∈ lw_tbl := lw_at lw_m25 20 rfl
theorem q6173 : (Jvm.Cond.instanceMethod ({ cls := "WasteHouse$RoundColumns$Corner", name := "climb", desc := "(II)V" } : Jvm.MethodName)) ∈ lw_all := lw_g (lw_at lw_m25 21 rfl) rfl
theorem q6174 : (Jvm.Cond.code ({ cls := "WasteHouse$RoundColumns$Corner", name := "climb", desc := "(II)V" } : Jvm.MethodName) prog_37_method_10_code (4 : Nat) (Option.none : Option Jvm.ClassFile.FieldType)) ∈ lw_all := lw_g (lw_at lw_m25 22 rfl) rfl
theorem q6175 : (Jvm.Cond.methodLink "WasteHouse$RoundColumns$Corner" (69 : Nat) ({ cls := "WasteHouse$RoundColumns$Corner", name := "helping", desc := "(I)I" } : Jvm.MethodName)) ∈ lw_all := lw_g (lw_at lw_m25 23 rfl) rfl
theorem q6176 : (Jvm.Cond.privateMethod ({ cls := "WasteHouse$RoundColumns$Corner", name := "helping", desc := "(I)I" } : Jvm.MethodName)) ∈ lw_tbl := lw_at lw_m25 24 rfl
theorem q6177 : (Jvm.Cond.instanceMethod ({ cls := "WasteHouse$RoundColumns$Corner", name := "helping", desc := "(I)I" } : Jvm.MethodName)) ∈ lw_all := lw_g (lw_at lw_m25 25 rfl) rfl
theorem q6178 : (Jvm.Cond.code ({ cls := "WasteHouse$RoundColumns$Corner", name := "helping", desc := "(I)I" } : Jvm.MethodName) prog_37_method_11_code (4 : Nat) (Option.some Jvm.ClassFile.FieldType.int)) ∈ lw_all := lw_g (lw_at lw_m25 26 rfl) rfl
theorem q6179 : (Jvm.Cond.methodLink "WasteHouse$RoundColumns$Corner" (73 : Nat) ({ cls := "WasteHouse$RoundColumns$Corner", name := "stopping", desc := "(II)I" } : Jvm.MethodName)) ∈ lw_all := lw_g (lw_at lw_m25 27 rfl) rfl
theorem q6180 : (Jvm.Cond.privateMethod ({ cls := "WasteHouse$RoundColumns$Corner", name := "stopping", desc := "(II)I" } : Jvm.MethodName)) ∈ lw_tbl := lw_at lw_m25 28 rfl
theorem q6181 : (Jvm.Cond.instanceMethod ({ cls := "WasteHouse$RoundColumns$Corner", name := "stopping", desc := "(II)I" } : Jvm.MethodName)) ∈ lw_all := lw_g (lw_at lw_m25 29 rfl) rfl
theorem q6182 : (Jvm.Cond.code ({ cls := "WasteHouse$RoundColumns$Corner", name := "stopping", desc := "(II)I" } : Jvm.MethodName) prog_37_method_12_code (7 : Nat) (Option.some Jvm.ClassFile.FieldType.int)) ∈ lw_all := lw_g (lw_at lw_m25 30 rfl) rfl
theorem q6183 : (Jvm.Cond.methodLink "WasteHouse$RoundColumns$Corner" (66 : Nat) ({ cls := "WasteHouse$RoundColumns$Corner", name := "leave", desc := "(II)V" } : Jvm.MethodName)) ∈ lw_all := lw_g (lw_at lw_m25 31 rfl) rfl
theorem q6184 : (Jvm.Cond.privateMethod ({ cls := "WasteHouse$RoundColumns$Corner", name := "leave", desc := "(II)V" } : Jvm.MethodName)) ∈ lw_tbl := lw_at lw_m25 32 rfl
theorem q6185 : (Jvm.Cond.instanceMethod ({ cls := "WasteHouse$RoundColumns$Corner", name := "leave", desc := "(II)V" } : Jvm.MethodName)) ∈ lw_all := lw_g (lw_at lw_m25 33 rfl) rfl
theorem q6186 : (Jvm.Cond.code ({ cls := "WasteHouse$RoundColumns$Corner", name := "leave", desc := "(II)V" } : Jvm.MethodName) prog_37_method_9_code (6 : Nat) (Option.none : Option Jvm.ClassFile.FieldType)) ∈ lw_all := lw_g (lw_at lw_m25 34 rfl) rfl
theorem q6187 : (Jvm.Cond.methodLink "WasteHouse$RoundColumns$Corner" (54 : Nat) ({ cls := "WasteHouse$RoundColumns$Ratio", name := "set", desc := "(JJ)V" } : Jvm.MethodName)) ∈ lw_all := lw_g (lw_at lw_m25 35 rfl) rfl
theorem q9647 : (Jvm.Cond.castable "WasteHouse$RoundColumns$Corner" "java/lang/Object") ∈ lw_tbl := lw_at lw_m39 135 rfl
theorem in_X19 : ∀ w ∈ wsX190, w ∈ lw_all := lw_in wsX190 [1184, 1186, 1188, 1190, 1192, 1194] (by decide +kernel) (by decide +kernel)
