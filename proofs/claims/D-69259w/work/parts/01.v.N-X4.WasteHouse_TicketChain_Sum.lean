/-! WasteHouse$TicketChain$Sum -/
set_option maxRecDepth 100000
def RX4 : String := "WasteHouse$TicketChain$Sum"
def TX4 : u_T := fun k => match k with
  | 0 => ("WasteHouse$TicketChain$Sum", "fixed", "LWasteHouse$TicketChain$Fixed;", true)
  | 1 => ("WasteHouse$TicketChain$Sum", "state", "[I", true)
  | 2 => ("WasteHouse$TicketChain$Sum", "words", "[I", true)
  | 3 => ("WasteHouse$TicketChain$Sum", "block", "[B", true)
  | _ => ("WasteHouse$TicketChain$Sum", "length", "J", false)
def tyX4 : Nat → FieldType := fun k => match k with
  | 0 => .object "WasteHouse$TicketChain$Fixed"
  | 1 => .array .int
  | 2 => .array .int
  | 3 => .array .byte
  | _ => .long
abbrev wsX40 : List Cond := u_ws RX4 TX4 5
theorem nmX4 : ∀ a, a < 5 → ∀ b, b < 5 → a ≠ b → (TX4 a).2.1 ≠ (TX4 b).2.1 := by decide +kernel
theorem tyX4_ok : ∀ k, k < 5 → parseFieldDescriptor (TX4 k).2.2.1 = some (tyX4 k) := by decide +kernel
abbrev cX4_init : ByteArray := prog_51_method_1_code
def yX4_init : MethodName := ⟨RX4, "<init>", "(LWasteHouse$TicketChain$Fixed;)V"⟩
def dkwX4_init_1 : List UInt8 := [188, 8, 181, 0, 18, 42, 43, 181, 0, 22, 177]
abbrev dktX4_init_1 : List UInt8 := dkwX4_init_1 ++ []
def dkwX4_init_0 : List UInt8 := [42, 183, 0, 3, 42, 16, 8, 188, 10, 181, 0, 9, 42, 16, 64, 188, 10, 181, 0, 15, 42, 16, 64]
abbrev dktX4_init_0 : List UInt8 := dkwX4_init_0 ++ dktX4_init_1
theorem dksX4_init_0 : cX4_init.data.toList.drop 0 = dktX4_init_0 := by decide +kernel
theorem dksX4_init_1 : cX4_init.data.toList.drop 23 = dktX4_init_1 := dk_seg dksX4_init_0 23 rfl rfl
theorem dX4_init_0 : decode cX4_init 0 = .ok (.aload_n 0, 1) := dk_42 (dk_at dksX4_init_0 0 rfl rfl)
theorem dX4_init_1 : decode cX4_init 1 = .ok (.invokespecial 3, 3) := dk_183 0 3 (dk_at dksX4_init_0 1 rfl rfl)
theorem dX4_init_4 : decode cX4_init 4 = .ok (.aload_n 0, 1) := dk_42 (dk_at dksX4_init_0 4 rfl rfl)
theorem dX4_init_5 : decode cX4_init 5 = .ok (.bipush 8, 2) := dk_16 8 (dk_at dksX4_init_0 5 rfl rfl)
theorem dX4_init_7 : decode cX4_init 7 = .ok (.newarray .int, 2) := dk_188_10 (dk_at dksX4_init_0 7 rfl rfl)
theorem dX4_init_9 : decode cX4_init 9 = .ok (.putfield 9, 3) := dk_181 0 9 (dk_at dksX4_init_0 9 rfl rfl)
theorem dX4_init_12 : decode cX4_init 12 = .ok (.aload_n 0, 1) := dk_42 (dk_at dksX4_init_0 12 rfl rfl)
theorem dX4_init_13 : decode cX4_init 13 = .ok (.bipush 64, 2) := dk_16 64 (dk_at dksX4_init_0 13 rfl rfl)
theorem dX4_init_15 : decode cX4_init 15 = .ok (.newarray .int, 2) := dk_188_10 (dk_at dksX4_init_0 15 rfl rfl)
theorem dX4_init_17 : decode cX4_init 17 = .ok (.putfield 15, 3) := dk_181 0 15 (dk_at dksX4_init_0 17 rfl rfl)
theorem dX4_init_20 : decode cX4_init 20 = .ok (.aload_n 0, 1) := dk_42 (dk_at dksX4_init_0 20 rfl rfl)
theorem dX4_init_21 : decode cX4_init 21 = .ok (.bipush 64, 2) := dk_16 64 (dk_at dksX4_init_0 21 rfl rfl)
theorem dX4_init_23 : decode cX4_init 23 = .ok (.newarray .byte, 2) := dk_188_8 (dk_at dksX4_init_1 0 rfl rfl)
theorem dX4_init_25 : decode cX4_init 25 = .ok (.putfield 18, 3) := dk_181 0 18 (dk_at dksX4_init_1 2 rfl rfl)
theorem dX4_init_28 : decode cX4_init 28 = .ok (.aload_n 0, 1) := dk_42 (dk_at dksX4_init_1 5 rfl rfl)
theorem dX4_init_29 : decode cX4_init 29 = .ok (.aload_n 1, 1) := dk_43 (dk_at dksX4_init_1 6 rfl rfl)
theorem dX4_init_30 : decode cX4_init 30 = .ok (.putfield 22, 3) := dk_181 0 22 (dk_at dksX4_init_1 7 rfl rfl)
theorem dX4_init_33 : decode cX4_init 33 = .ok (.return_, 1) := dk_177 (dk_at dksX4_init_1 10 rfl rfl)
abbrev cX4_begin : ByteArray := prog_51_method_2_code
def yX4_begin : MethodName := ⟨RX4, "begin", "()V"⟩
def dkwX4_begin_0 : List UInt8 := [42, 180, 0, 22, 180, 0, 26, 3, 42, 180, 0, 9, 3, 16, 8, 184, 0, 31, 42, 9, 181, 0, 37, 177]
abbrev dktX4_begin_0 : List UInt8 := dkwX4_begin_0 ++ []
theorem dksX4_begin_0 : cX4_begin.data.toList.drop 0 = dktX4_begin_0 := by decide +kernel
theorem dX4_begin_0 : decode cX4_begin 0 = .ok (.aload_n 0, 1) := dk_42 (dk_at dksX4_begin_0 0 rfl rfl)
theorem dX4_begin_1 : decode cX4_begin 1 = .ok (.getfield 22, 3) := dk_180 0 22 (dk_at dksX4_begin_0 1 rfl rfl)
theorem dX4_begin_4 : decode cX4_begin 4 = .ok (.getfield 26, 3) := dk_180 0 26 (dk_at dksX4_begin_0 4 rfl rfl)
theorem dX4_begin_7 : decode cX4_begin 7 = .ok (.iconst 0, 1) := dk_3 (dk_at dksX4_begin_0 7 rfl rfl)
theorem dX4_begin_8 : decode cX4_begin 8 = .ok (.aload_n 0, 1) := dk_42 (dk_at dksX4_begin_0 8 rfl rfl)
theorem dX4_begin_9 : decode cX4_begin 9 = .ok (.getfield 9, 3) := dk_180 0 9 (dk_at dksX4_begin_0 9 rfl rfl)
theorem dX4_begin_12 : decode cX4_begin 12 = .ok (.iconst 0, 1) := dk_3 (dk_at dksX4_begin_0 12 rfl rfl)
theorem dX4_begin_13 : decode cX4_begin 13 = .ok (.bipush 8, 2) := dk_16 8 (dk_at dksX4_begin_0 13 rfl rfl)
theorem dX4_begin_15 : decode cX4_begin 15 = .ok (.invokestatic 31, 3) := dk_184 0 31 (dk_at dksX4_begin_0 15 rfl rfl)
theorem dX4_begin_18 : decode cX4_begin 18 = .ok (.aload_n 0, 1) := dk_42 (dk_at dksX4_begin_0 18 rfl rfl)
theorem dX4_begin_19 : decode cX4_begin 19 = .ok (.lconst 0, 1) := dk_9 (dk_at dksX4_begin_0 19 rfl rfl)
theorem dX4_begin_20 : decode cX4_begin 20 = .ok (.putfield 37, 3) := dk_181 0 37 (dk_at dksX4_begin_0 20 rfl rfl)
theorem dX4_begin_23 : decode cX4_begin 23 = .ok (.return_, 1) := dk_177 (dk_at dksX4_begin_0 23 rfl rfl)
abbrev cX4_take : ByteArray := prog_51_method_4_code
def yX4_take : MethodName := ⟨RX4, "take", "([BII)V"⟩
def dkwX4_take_1 : List UInt8 := [167, 255, 237, 177]
abbrev dktX4_take_1 : List UInt8 := dkwX4_take_1 ++ []
def dkwX4_take_0 : List UInt8 := [3, 54, 4, 21, 4, 29, 162, 0, 19, 42, 43, 28, 21, 4, 96, 51, 182, 0, 46, 132, 4, 1]
abbrev dktX4_take_0 : List UInt8 := dkwX4_take_0 ++ dktX4_take_1
theorem dksX4_take_0 : cX4_take.data.toList.drop 0 = dktX4_take_0 := by decide +kernel
theorem dksX4_take_1 : cX4_take.data.toList.drop 22 = dktX4_take_1 := dk_seg dksX4_take_0 22 rfl rfl
theorem dX4_take_0 : decode cX4_take 0 = .ok (.iconst 0, 1) := dk_3 (dk_at dksX4_take_0 0 rfl rfl)
theorem dX4_take_1 : decode cX4_take 1 = .ok (.istore 4, 2) := dk_54 4 (dk_at dksX4_take_0 1 rfl rfl)
theorem dX4_take_3 : decode cX4_take 3 = .ok (.iload 4, 2) := dk_21 4 (dk_at dksX4_take_0 3 rfl rfl)
theorem dX4_take_5 : decode cX4_take 5 = .ok (.iload_n 3, 1) := dk_29 (dk_at dksX4_take_0 5 rfl rfl)
theorem dX4_take_6 : decode cX4_take 6 = .ok (.if_icmp .ge 19, 3) := dk_162 0 19 (dk_at dksX4_take_0 6 rfl rfl)
theorem dX4_take_9 : decode cX4_take 9 = .ok (.aload_n 0, 1) := dk_42 (dk_at dksX4_take_0 9 rfl rfl)
theorem dX4_take_10 : decode cX4_take 10 = .ok (.aload_n 1, 1) := dk_43 (dk_at dksX4_take_0 10 rfl rfl)
theorem dX4_take_11 : decode cX4_take 11 = .ok (.iload_n 2, 1) := dk_28 (dk_at dksX4_take_0 11 rfl rfl)
theorem dX4_take_12 : decode cX4_take 12 = .ok (.iload 4, 2) := dk_21 4 (dk_at dksX4_take_0 12 rfl rfl)
theorem dX4_take_14 : decode cX4_take 14 = .ok (.iadd, 1) := dk_96 (dk_at dksX4_take_0 14 rfl rfl)
theorem dX4_take_15 : decode cX4_take 15 = .ok (.baload, 1) := dk_51 (dk_at dksX4_take_0 15 rfl rfl)
theorem dX4_take_16 : decode cX4_take 16 = .ok (.invokevirtual 46, 3) := dk_182 0 46 (dk_at dksX4_take_0 16 rfl rfl)
theorem dX4_take_19 : decode cX4_take 19 = .ok (.iinc 4 1, 3) := dk_132 4 1 (dk_at dksX4_take_0 19 rfl rfl)
theorem dX4_take_22 : decode cX4_take 22 = .ok (.goto (-19), 3) := dk_167 255 237 (dk_at dksX4_take_1 0 rfl rfl)
theorem dX4_take_25 : decode cX4_take 25 = .ok (.return_, 1) := dk_177 (dk_at dksX4_take_1 3 rfl rfl)
abbrev cX4_take_2 : ByteArray := prog_51_method_3_code
def yX4_take_2 : MethodName := ⟨RX4, "take", "(I)V"⟩
def dkwX4_take_2_1 : List UInt8 := [97, 181, 0, 37, 28, 16, 63, 160, 0, 7, 42, 182, 0, 43, 177]
abbrev dktX4_take_2_1 : List UInt8 := dkwX4_take_2_1 ++ []
def dkwX4_take_2_0 : List UInt8 := [42, 180, 0, 37, 20, 0, 41, 127, 136, 61, 42, 180, 0, 18, 28, 27, 145, 84, 42, 89, 180, 0, 37, 10]
abbrev dktX4_take_2_0 : List UInt8 := dkwX4_take_2_0 ++ dktX4_take_2_1
theorem dksX4_take_2_0 : cX4_take_2.data.toList.drop 0 = dktX4_take_2_0 := by decide +kernel
theorem dksX4_take_2_1 : cX4_take_2.data.toList.drop 24 = dktX4_take_2_1 := dk_seg dksX4_take_2_0 24 rfl rfl
theorem dX4_take_2_0 : decode cX4_take_2 0 = .ok (.aload_n 0, 1) := dk_42 (dk_at dksX4_take_2_0 0 rfl rfl)
theorem dX4_take_2_1 : decode cX4_take_2 1 = .ok (.getfield 37, 3) := dk_180 0 37 (dk_at dksX4_take_2_0 1 rfl rfl)
theorem dX4_take_2_4 : decode cX4_take_2 4 = .ok (.ldc2_w 41, 3) := dk_20 0 41 (dk_at dksX4_take_2_0 4 rfl rfl)
theorem dX4_take_2_7 : decode cX4_take_2 7 = .ok (.land, 1) := dk_127 (dk_at dksX4_take_2_0 7 rfl rfl)
theorem dX4_take_2_8 : decode cX4_take_2 8 = .ok (.l2i, 1) := dk_136 (dk_at dksX4_take_2_0 8 rfl rfl)
theorem dX4_take_2_9 : decode cX4_take_2 9 = .ok (.istore_n 2, 1) := dk_61 (dk_at dksX4_take_2_0 9 rfl rfl)
theorem dX4_take_2_10 : decode cX4_take_2 10 = .ok (.aload_n 0, 1) := dk_42 (dk_at dksX4_take_2_0 10 rfl rfl)
theorem dX4_take_2_11 : decode cX4_take_2 11 = .ok (.getfield 18, 3) := dk_180 0 18 (dk_at dksX4_take_2_0 11 rfl rfl)
theorem dX4_take_2_14 : decode cX4_take_2 14 = .ok (.iload_n 2, 1) := dk_28 (dk_at dksX4_take_2_0 14 rfl rfl)
theorem dX4_take_2_15 : decode cX4_take_2 15 = .ok (.iload_n 1, 1) := dk_27 (dk_at dksX4_take_2_0 15 rfl rfl)
theorem dX4_take_2_16 : decode cX4_take_2 16 = .ok (.i2b, 1) := dk_145 (dk_at dksX4_take_2_0 16 rfl rfl)
theorem dX4_take_2_17 : decode cX4_take_2 17 = .ok (.bastore, 1) := dk_84 (dk_at dksX4_take_2_0 17 rfl rfl)
theorem dX4_take_2_18 : decode cX4_take_2 18 = .ok (.aload_n 0, 1) := dk_42 (dk_at dksX4_take_2_0 18 rfl rfl)
theorem dX4_take_2_19 : decode cX4_take_2 19 = .ok (.dup, 1) := dk_89 (dk_at dksX4_take_2_0 19 rfl rfl)
theorem dX4_take_2_20 : decode cX4_take_2 20 = .ok (.getfield 37, 3) := dk_180 0 37 (dk_at dksX4_take_2_0 20 rfl rfl)
theorem dX4_take_2_23 : decode cX4_take_2 23 = .ok (.lconst 1, 1) := dk_10 (dk_at dksX4_take_2_0 23 rfl rfl)
theorem dX4_take_2_24 : decode cX4_take_2 24 = .ok (.ladd, 1) := dk_97 (dk_at dksX4_take_2_1 0 rfl rfl)
theorem dX4_take_2_25 : decode cX4_take_2 25 = .ok (.putfield 37, 3) := dk_181 0 37 (dk_at dksX4_take_2_1 1 rfl rfl)
theorem dX4_take_2_28 : decode cX4_take_2 28 = .ok (.iload_n 2, 1) := dk_28 (dk_at dksX4_take_2_1 4 rfl rfl)
theorem dX4_take_2_29 : decode cX4_take_2 29 = .ok (.bipush 63, 2) := dk_16 63 (dk_at dksX4_take_2_1 5 rfl rfl)
theorem dX4_take_2_31 : decode cX4_take_2 31 = .ok (.if_icmp .ne 7, 3) := dk_160 0 7 (dk_at dksX4_take_2_1 7 rfl rfl)
theorem dX4_take_2_34 : decode cX4_take_2 34 = .ok (.aload_n 0, 1) := dk_42 (dk_at dksX4_take_2_1 10 rfl rfl)
theorem dX4_take_2_35 : decode cX4_take_2 35 = .ok (.invokevirtual 43, 3) := dk_182 0 43 (dk_at dksX4_take_2_1 11 rfl rfl)
theorem dX4_take_2_38 : decode cX4_take_2 38 = .ok (.return_, 1) := dk_177 (dk_at dksX4_take_2_1 14 rfl rfl)
abbrev cX4_fold : ByteArray := prog_51_method_5_code
def yX4_fold : MethodName := ⟨RX4, "fold", "()V"⟩
def dkwX4_fold_20 : List UInt8 := [21, 7, 96, 79, 42, 180, 0, 9, 16, 7, 92, 46, 21, 8, 96, 79, 177]
abbrev dktX4_fold_20 : List UInt8 := dkwX4_fold_20 ++ []
def dkwX4_fold_19 : List UInt8 := [21, 5, 96, 79, 42, 180, 0, 9, 8, 92, 46, 21, 6, 96, 79, 42, 180, 0, 9, 16, 6, 92, 46]
abbrev dktX4_fold_19 : List UInt8 := dkwX4_fold_19 ++ dktX4_fold_20
def dkwX4_fold_18 : List UInt8 := [92, 46, 29, 96, 79, 42, 180, 0, 9, 6, 92, 46, 21, 4, 96, 79, 42, 180, 0, 9, 7, 92, 46]
abbrev dktX4_fold_18 : List UInt8 := dkwX4_fold_18 ++ dktX4_fold_19
def dkwX4_fold_17 : List UInt8 := [180, 0, 9, 3, 92, 46, 27, 96, 79, 42, 180, 0, 9, 4, 92, 46, 28, 96, 79, 42, 180, 0, 9, 5]
abbrev dktX4_fold_17 : List UInt8 := dkwX4_fold_17 ++ dktX4_fold_18
def dkwX4_fold_16 : List UInt8 := [54, 5, 29, 54, 4, 28, 62, 27, 61, 21, 11, 21, 12, 96, 60, 132, 9, 1, 167, 255, 116, 42]
abbrev dktX4_fold_16 : List UInt8 := dkwX4_fold_16 ++ dktX4_fold_17
def dkwX4_fold_15 : List UInt8 := [28, 29, 126, 130, 96, 54, 12, 21, 7, 54, 8, 21, 6, 54, 7, 21, 5, 54, 6, 21, 4, 21, 11, 96]
abbrev dktX4_fold_15 : List UInt8 := dkwX4_fold_15 ++ dktX4_fold_16
def dkwX4_fold_14 : List UInt8 := [184, 0, 50, 27, 16, 13, 184, 0, 50, 130, 27, 16, 22, 184, 0, 50, 130, 27, 28, 126, 27, 29, 126, 130]
abbrev dktX4_fold_14 : List UInt8 := dkwX4_fold_14 ++ dktX4_fold_15
def dkwX4_fold_13 : List UInt8 := [96, 42, 180, 0, 22, 180, 0, 56, 21, 9, 46, 96, 42, 180, 0, 15, 21, 9, 46, 96, 54, 11, 27, 5]
abbrev dktX4_fold_13 : List UInt8 := dkwX4_fold_13 ++ dktX4_fold_14
def dkwX4_fold_12 : List UInt8 := [184, 0, 50, 130, 54, 10, 21, 8, 21, 10, 96, 21, 5, 21, 6, 126, 21, 5, 2, 130, 21, 7, 126, 130]
abbrev dktX4_fold_12 : List UInt8 := dkwX4_fold_12 ++ dktX4_fold_13
def dkwX4_fold_11 : List UInt8 := [16, 64, 162, 0, 139, 21, 5, 16, 6, 184, 0, 50, 21, 5, 16, 11, 184, 0, 50, 130, 21, 5, 16, 25]
abbrev dktX4_fold_11 : List UInt8 := dkwX4_fold_11 ++ dktX4_fold_12
def dkwX4_fold_10 : List UInt8 := [42, 180, 0, 9, 16, 6, 46, 54, 7, 42, 180, 0, 9, 16, 7, 46, 54, 8, 3, 54, 9, 21, 9]
abbrev dktX4_fold_10 : List UInt8 := dkwX4_fold_10 ++ dktX4_fold_11
def dkwX4_fold_9 : List UInt8 := [42, 180, 0, 9, 6, 46, 54, 4, 42, 180, 0, 9, 7, 46, 54, 5, 42, 180, 0, 9, 8, 46, 54, 6]
abbrev dktX4_fold_9 : List UInt8 := dkwX4_fold_9 ++ dktX4_fold_10
def dkwX4_fold_8 : List UInt8 := [167, 255, 158, 42, 180, 0, 9, 3, 46, 60, 42, 180, 0, 9, 4, 46, 61, 42, 180, 0, 9, 5, 46, 62]
abbrev dktX4_fold_8 : List UInt8 := dkwX4_fold_8 ++ dktX4_fold_9
def dkwX4_fold_7 : List UInt8 := [16, 7, 100, 46, 96, 21, 4, 96, 42, 180, 0, 15, 27, 16, 16, 100, 46, 96, 79, 132, 1, 1]
abbrev dktX4_fold_7 : List UInt8 := dkwX4_fold_7 ++ dktX4_fold_8
def dkwX4_fold_6 : List UInt8 := [184, 0, 50, 130, 29, 16, 10, 124, 130, 54, 5, 42, 180, 0, 15, 27, 21, 5, 42, 180, 0, 15, 27]
abbrev dktX4_fold_6 : List UInt8 := dkwX4_fold_6 ++ dktX4_fold_7
def dkwX4_fold_5 : List UInt8 := [28, 16, 18, 184, 0, 50, 130, 28, 6, 124, 130, 54, 4, 29, 16, 17, 184, 0, 50, 29, 16, 19]
abbrev dktX4_fold_5 : List UInt8 := dkwX4_fold_5 ++ dktX4_fold_6
def dkwX4_fold_4 : List UInt8 := [180, 0, 15, 27, 16, 15, 100, 46, 61, 42, 180, 0, 15, 27, 5, 100, 46, 62, 28, 16, 7, 184, 0, 50]
abbrev dktX4_fold_4 : List UInt8 := dkwX4_fold_4 ++ dktX4_fold_5
def dkwX4_fold_3 : List UInt8 := [17, 0, 255, 126, 128, 79, 132, 1, 1, 167, 255, 179, 16, 16, 60, 27, 16, 64, 162, 0, 98, 42]
abbrev dktX4_fold_3 : List UInt8 := dkwX4_fold_3 ++ dktX4_fold_4
def dkwX4_fold_2 : List UInt8 := [104, 5, 96, 51, 17, 0, 255, 126, 16, 8, 120, 128, 42, 180, 0, 18, 7, 27, 104, 6, 96, 51]
abbrev dktX4_fold_2 : List UInt8 := dkwX4_fold_2 ++ dktX4_fold_3
def dkwX4_fold_1 : List UInt8 := [42, 180, 0, 18, 7, 27, 104, 4, 96, 51, 17, 0, 255, 126, 16, 16, 120, 128, 42, 180, 0, 18, 7, 27]
abbrev dktX4_fold_1 : List UInt8 := dkwX4_fold_1 ++ dktX4_fold_2
def dkwX4_fold_0 : List UInt8 := [3, 60, 27, 16, 16, 162, 0, 77, 42, 180, 0, 15, 27, 42, 180, 0, 18, 7, 27, 104, 51, 16, 24, 120]
abbrev dktX4_fold_0 : List UInt8 := dkwX4_fold_0 ++ dktX4_fold_1
theorem dksX4_fold_0 : cX4_fold.data.toList.drop 0 = dktX4_fold_0 := by decide +kernel
theorem dksX4_fold_1 : cX4_fold.data.toList.drop 24 = dktX4_fold_1 := dk_seg dksX4_fold_0 24 rfl rfl
theorem dksX4_fold_2 : cX4_fold.data.toList.drop 48 = dktX4_fold_2 := dk_seg dksX4_fold_1 24 rfl rfl
theorem dksX4_fold_3 : cX4_fold.data.toList.drop 70 = dktX4_fold_3 := dk_seg dksX4_fold_2 22 rfl rfl
theorem dksX4_fold_4 : cX4_fold.data.toList.drop 92 = dktX4_fold_4 := dk_seg dksX4_fold_3 22 rfl rfl
theorem dksX4_fold_5 : cX4_fold.data.toList.drop 116 = dktX4_fold_5 := dk_seg dksX4_fold_4 24 rfl rfl
theorem dksX4_fold_6 : cX4_fold.data.toList.drop 138 = dktX4_fold_6 := dk_seg dksX4_fold_5 22 rfl rfl
theorem dksX4_fold_7 : cX4_fold.data.toList.drop 161 = dktX4_fold_7 := dk_seg dksX4_fold_6 23 rfl rfl
theorem dksX4_fold_8 : cX4_fold.data.toList.drop 183 = dktX4_fold_8 := dk_seg dksX4_fold_7 22 rfl rfl
theorem dksX4_fold_9 : cX4_fold.data.toList.drop 207 = dktX4_fold_9 := dk_seg dksX4_fold_8 24 rfl rfl
theorem dksX4_fold_10 : cX4_fold.data.toList.drop 231 = dktX4_fold_10 := dk_seg dksX4_fold_9 24 rfl rfl
theorem dksX4_fold_11 : cX4_fold.data.toList.drop 254 = dktX4_fold_11 := dk_seg dksX4_fold_10 23 rfl rfl
theorem dksX4_fold_12 : cX4_fold.data.toList.drop 278 = dktX4_fold_12 := dk_seg dksX4_fold_11 24 rfl rfl
theorem dksX4_fold_13 : cX4_fold.data.toList.drop 302 = dktX4_fold_13 := dk_seg dksX4_fold_12 24 rfl rfl
theorem dksX4_fold_14 : cX4_fold.data.toList.drop 326 = dktX4_fold_14 := dk_seg dksX4_fold_13 24 rfl rfl
theorem dksX4_fold_15 : cX4_fold.data.toList.drop 350 = dktX4_fold_15 := dk_seg dksX4_fold_14 24 rfl rfl
theorem dksX4_fold_16 : cX4_fold.data.toList.drop 374 = dktX4_fold_16 := dk_seg dksX4_fold_15 24 rfl rfl
theorem dksX4_fold_17 : cX4_fold.data.toList.drop 396 = dktX4_fold_17 := dk_seg dksX4_fold_16 22 rfl rfl
theorem dksX4_fold_18 : cX4_fold.data.toList.drop 420 = dktX4_fold_18 := dk_seg dksX4_fold_17 24 rfl rfl
theorem dksX4_fold_19 : cX4_fold.data.toList.drop 443 = dktX4_fold_19 := dk_seg dksX4_fold_18 23 rfl rfl
theorem dksX4_fold_20 : cX4_fold.data.toList.drop 466 = dktX4_fold_20 := dk_seg dksX4_fold_19 23 rfl rfl
theorem dX4_fold_0 : decode cX4_fold 0 = .ok (.iconst 0, 1) := dk_3 (dk_at dksX4_fold_0 0 rfl rfl)
theorem dX4_fold_1 : decode cX4_fold 1 = .ok (.istore_n 1, 1) := dk_60 (dk_at dksX4_fold_0 1 rfl rfl)
theorem dX4_fold_2 : decode cX4_fold 2 = .ok (.iload_n 1, 1) := dk_27 (dk_at dksX4_fold_0 2 rfl rfl)
theorem dX4_fold_3 : decode cX4_fold 3 = .ok (.bipush 16, 2) := dk_16 16 (dk_at dksX4_fold_0 3 rfl rfl)
theorem dX4_fold_5 : decode cX4_fold 5 = .ok (.if_icmp .ge 77, 3) := dk_162 0 77 (dk_at dksX4_fold_0 5 rfl rfl)
theorem dX4_fold_8 : decode cX4_fold 8 = .ok (.aload_n 0, 1) := dk_42 (dk_at dksX4_fold_0 8 rfl rfl)
theorem dX4_fold_9 : decode cX4_fold 9 = .ok (.getfield 15, 3) := dk_180 0 15 (dk_at dksX4_fold_0 9 rfl rfl)
theorem dX4_fold_12 : decode cX4_fold 12 = .ok (.iload_n 1, 1) := dk_27 (dk_at dksX4_fold_0 12 rfl rfl)
theorem dX4_fold_13 : decode cX4_fold 13 = .ok (.aload_n 0, 1) := dk_42 (dk_at dksX4_fold_0 13 rfl rfl)
theorem dX4_fold_14 : decode cX4_fold 14 = .ok (.getfield 18, 3) := dk_180 0 18 (dk_at dksX4_fold_0 14 rfl rfl)
theorem dX4_fold_17 : decode cX4_fold 17 = .ok (.iconst 4, 1) := dk_7 (dk_at dksX4_fold_0 17 rfl rfl)
theorem dX4_fold_18 : decode cX4_fold 18 = .ok (.iload_n 1, 1) := dk_27 (dk_at dksX4_fold_0 18 rfl rfl)
theorem dX4_fold_19 : decode cX4_fold 19 = .ok (.imul, 1) := dk_104 (dk_at dksX4_fold_0 19 rfl rfl)
theorem dX4_fold_20 : decode cX4_fold 20 = .ok (.baload, 1) := dk_51 (dk_at dksX4_fold_0 20 rfl rfl)
theorem dX4_fold_21 : decode cX4_fold 21 = .ok (.bipush 24, 2) := dk_16 24 (dk_at dksX4_fold_0 21 rfl rfl)
theorem dX4_fold_23 : decode cX4_fold 23 = .ok (.ishl, 1) := dk_120 (dk_at dksX4_fold_0 23 rfl rfl)
theorem dX4_fold_24 : decode cX4_fold 24 = .ok (.aload_n 0, 1) := dk_42 (dk_at dksX4_fold_1 0 rfl rfl)
theorem dX4_fold_25 : decode cX4_fold 25 = .ok (.getfield 18, 3) := dk_180 0 18 (dk_at dksX4_fold_1 1 rfl rfl)
theorem dX4_fold_28 : decode cX4_fold 28 = .ok (.iconst 4, 1) := dk_7 (dk_at dksX4_fold_1 4 rfl rfl)
theorem dX4_fold_29 : decode cX4_fold 29 = .ok (.iload_n 1, 1) := dk_27 (dk_at dksX4_fold_1 5 rfl rfl)
theorem dX4_fold_30 : decode cX4_fold 30 = .ok (.imul, 1) := dk_104 (dk_at dksX4_fold_1 6 rfl rfl)
theorem dX4_fold_31 : decode cX4_fold 31 = .ok (.iconst 1, 1) := dk_4 (dk_at dksX4_fold_1 7 rfl rfl)
theorem dX4_fold_32 : decode cX4_fold 32 = .ok (.iadd, 1) := dk_96 (dk_at dksX4_fold_1 8 rfl rfl)
theorem dX4_fold_33 : decode cX4_fold 33 = .ok (.baload, 1) := dk_51 (dk_at dksX4_fold_1 9 rfl rfl)
theorem dX4_fold_34 : decode cX4_fold 34 = .ok (.sipush 255, 3) := dk_17 0 255 (dk_at dksX4_fold_1 10 rfl rfl)
theorem dX4_fold_37 : decode cX4_fold 37 = .ok (.iand, 1) := dk_126 (dk_at dksX4_fold_1 13 rfl rfl)
theorem dX4_fold_38 : decode cX4_fold 38 = .ok (.bipush 16, 2) := dk_16 16 (dk_at dksX4_fold_1 14 rfl rfl)
theorem dX4_fold_40 : decode cX4_fold 40 = .ok (.ishl, 1) := dk_120 (dk_at dksX4_fold_1 16 rfl rfl)
theorem dX4_fold_41 : decode cX4_fold 41 = .ok (.ior, 1) := dk_128 (dk_at dksX4_fold_1 17 rfl rfl)
theorem dX4_fold_42 : decode cX4_fold 42 = .ok (.aload_n 0, 1) := dk_42 (dk_at dksX4_fold_1 18 rfl rfl)
theorem dX4_fold_43 : decode cX4_fold 43 = .ok (.getfield 18, 3) := dk_180 0 18 (dk_at dksX4_fold_1 19 rfl rfl)
theorem dX4_fold_46 : decode cX4_fold 46 = .ok (.iconst 4, 1) := dk_7 (dk_at dksX4_fold_1 22 rfl rfl)
theorem dX4_fold_47 : decode cX4_fold 47 = .ok (.iload_n 1, 1) := dk_27 (dk_at dksX4_fold_1 23 rfl rfl)
theorem dX4_fold_48 : decode cX4_fold 48 = .ok (.imul, 1) := dk_104 (dk_at dksX4_fold_2 0 rfl rfl)
theorem dX4_fold_49 : decode cX4_fold 49 = .ok (.iconst 2, 1) := dk_5 (dk_at dksX4_fold_2 1 rfl rfl)
theorem dX4_fold_50 : decode cX4_fold 50 = .ok (.iadd, 1) := dk_96 (dk_at dksX4_fold_2 2 rfl rfl)
theorem dX4_fold_51 : decode cX4_fold 51 = .ok (.baload, 1) := dk_51 (dk_at dksX4_fold_2 3 rfl rfl)
theorem dX4_fold_52 : decode cX4_fold 52 = .ok (.sipush 255, 3) := dk_17 0 255 (dk_at dksX4_fold_2 4 rfl rfl)
theorem dX4_fold_55 : decode cX4_fold 55 = .ok (.iand, 1) := dk_126 (dk_at dksX4_fold_2 7 rfl rfl)
theorem dX4_fold_56 : decode cX4_fold 56 = .ok (.bipush 8, 2) := dk_16 8 (dk_at dksX4_fold_2 8 rfl rfl)
theorem dX4_fold_58 : decode cX4_fold 58 = .ok (.ishl, 1) := dk_120 (dk_at dksX4_fold_2 10 rfl rfl)
theorem dX4_fold_59 : decode cX4_fold 59 = .ok (.ior, 1) := dk_128 (dk_at dksX4_fold_2 11 rfl rfl)
theorem dX4_fold_60 : decode cX4_fold 60 = .ok (.aload_n 0, 1) := dk_42 (dk_at dksX4_fold_2 12 rfl rfl)
theorem dX4_fold_61 : decode cX4_fold 61 = .ok (.getfield 18, 3) := dk_180 0 18 (dk_at dksX4_fold_2 13 rfl rfl)
theorem dX4_fold_64 : decode cX4_fold 64 = .ok (.iconst 4, 1) := dk_7 (dk_at dksX4_fold_2 16 rfl rfl)
theorem dX4_fold_65 : decode cX4_fold 65 = .ok (.iload_n 1, 1) := dk_27 (dk_at dksX4_fold_2 17 rfl rfl)
theorem dX4_fold_66 : decode cX4_fold 66 = .ok (.imul, 1) := dk_104 (dk_at dksX4_fold_2 18 rfl rfl)
theorem dX4_fold_67 : decode cX4_fold 67 = .ok (.iconst 3, 1) := dk_6 (dk_at dksX4_fold_2 19 rfl rfl)
theorem dX4_fold_68 : decode cX4_fold 68 = .ok (.iadd, 1) := dk_96 (dk_at dksX4_fold_2 20 rfl rfl)
theorem dX4_fold_69 : decode cX4_fold 69 = .ok (.baload, 1) := dk_51 (dk_at dksX4_fold_2 21 rfl rfl)
theorem dX4_fold_70 : decode cX4_fold 70 = .ok (.sipush 255, 3) := dk_17 0 255 (dk_at dksX4_fold_3 0 rfl rfl)
theorem dX4_fold_73 : decode cX4_fold 73 = .ok (.iand, 1) := dk_126 (dk_at dksX4_fold_3 3 rfl rfl)
theorem dX4_fold_74 : decode cX4_fold 74 = .ok (.ior, 1) := dk_128 (dk_at dksX4_fold_3 4 rfl rfl)
theorem dX4_fold_75 : decode cX4_fold 75 = .ok (.iastore, 1) := dk_79 (dk_at dksX4_fold_3 5 rfl rfl)
theorem dX4_fold_76 : decode cX4_fold 76 = .ok (.iinc 1 1, 3) := dk_132 1 1 (dk_at dksX4_fold_3 6 rfl rfl)
theorem dX4_fold_79 : decode cX4_fold 79 = .ok (.goto (-77), 3) := dk_167 255 179 (dk_at dksX4_fold_3 9 rfl rfl)
theorem dX4_fold_82 : decode cX4_fold 82 = .ok (.bipush 16, 2) := dk_16 16 (dk_at dksX4_fold_3 12 rfl rfl)
theorem dX4_fold_84 : decode cX4_fold 84 = .ok (.istore_n 1, 1) := dk_60 (dk_at dksX4_fold_3 14 rfl rfl)
theorem dX4_fold_85 : decode cX4_fold 85 = .ok (.iload_n 1, 1) := dk_27 (dk_at dksX4_fold_3 15 rfl rfl)
theorem dX4_fold_86 : decode cX4_fold 86 = .ok (.bipush 64, 2) := dk_16 64 (dk_at dksX4_fold_3 16 rfl rfl)
theorem dX4_fold_88 : decode cX4_fold 88 = .ok (.if_icmp .ge 98, 3) := dk_162 0 98 (dk_at dksX4_fold_3 18 rfl rfl)
theorem dX4_fold_91 : decode cX4_fold 91 = .ok (.aload_n 0, 1) := dk_42 (dk_at dksX4_fold_3 21 rfl rfl)
theorem dX4_fold_92 : decode cX4_fold 92 = .ok (.getfield 15, 3) := dk_180 0 15 (dk_at dksX4_fold_4 0 rfl rfl)
theorem dX4_fold_95 : decode cX4_fold 95 = .ok (.iload_n 1, 1) := dk_27 (dk_at dksX4_fold_4 3 rfl rfl)
theorem dX4_fold_96 : decode cX4_fold 96 = .ok (.bipush 15, 2) := dk_16 15 (dk_at dksX4_fold_4 4 rfl rfl)
theorem dX4_fold_98 : decode cX4_fold 98 = .ok (.isub, 1) := dk_100 (dk_at dksX4_fold_4 6 rfl rfl)
theorem dX4_fold_99 : decode cX4_fold 99 = .ok (.iaload, 1) := dk_46 (dk_at dksX4_fold_4 7 rfl rfl)
theorem dX4_fold_100 : decode cX4_fold 100 = .ok (.istore_n 2, 1) := dk_61 (dk_at dksX4_fold_4 8 rfl rfl)
theorem dX4_fold_101 : decode cX4_fold 101 = .ok (.aload_n 0, 1) := dk_42 (dk_at dksX4_fold_4 9 rfl rfl)
theorem dX4_fold_102 : decode cX4_fold 102 = .ok (.getfield 15, 3) := dk_180 0 15 (dk_at dksX4_fold_4 10 rfl rfl)
theorem dX4_fold_105 : decode cX4_fold 105 = .ok (.iload_n 1, 1) := dk_27 (dk_at dksX4_fold_4 13 rfl rfl)
theorem dX4_fold_106 : decode cX4_fold 106 = .ok (.iconst 2, 1) := dk_5 (dk_at dksX4_fold_4 14 rfl rfl)
theorem dX4_fold_107 : decode cX4_fold 107 = .ok (.isub, 1) := dk_100 (dk_at dksX4_fold_4 15 rfl rfl)
theorem dX4_fold_108 : decode cX4_fold 108 = .ok (.iaload, 1) := dk_46 (dk_at dksX4_fold_4 16 rfl rfl)
theorem dX4_fold_109 : decode cX4_fold 109 = .ok (.istore_n 3, 1) := dk_62 (dk_at dksX4_fold_4 17 rfl rfl)
theorem dX4_fold_110 : decode cX4_fold 110 = .ok (.iload_n 2, 1) := dk_28 (dk_at dksX4_fold_4 18 rfl rfl)
theorem dX4_fold_111 : decode cX4_fold 111 = .ok (.bipush 7, 2) := dk_16 7 (dk_at dksX4_fold_4 19 rfl rfl)
theorem dX4_fold_113 : decode cX4_fold 113 = .ok (.invokestatic 50, 3) := dk_184 0 50 (dk_at dksX4_fold_4 21 rfl rfl)
theorem dX4_fold_116 : decode cX4_fold 116 = .ok (.iload_n 2, 1) := dk_28 (dk_at dksX4_fold_5 0 rfl rfl)
theorem dX4_fold_117 : decode cX4_fold 117 = .ok (.bipush 18, 2) := dk_16 18 (dk_at dksX4_fold_5 1 rfl rfl)
theorem dX4_fold_119 : decode cX4_fold 119 = .ok (.invokestatic 50, 3) := dk_184 0 50 (dk_at dksX4_fold_5 3 rfl rfl)
theorem dX4_fold_122 : decode cX4_fold 122 = .ok (.ixor, 1) := dk_130 (dk_at dksX4_fold_5 6 rfl rfl)
theorem dX4_fold_123 : decode cX4_fold 123 = .ok (.iload_n 2, 1) := dk_28 (dk_at dksX4_fold_5 7 rfl rfl)
theorem dX4_fold_124 : decode cX4_fold 124 = .ok (.iconst 3, 1) := dk_6 (dk_at dksX4_fold_5 8 rfl rfl)
theorem dX4_fold_125 : decode cX4_fold 125 = .ok (.iushr, 1) := dk_124 (dk_at dksX4_fold_5 9 rfl rfl)
theorem dX4_fold_126 : decode cX4_fold 126 = .ok (.ixor, 1) := dk_130 (dk_at dksX4_fold_5 10 rfl rfl)
theorem dX4_fold_127 : decode cX4_fold 127 = .ok (.istore 4, 2) := dk_54 4 (dk_at dksX4_fold_5 11 rfl rfl)
theorem dX4_fold_129 : decode cX4_fold 129 = .ok (.iload_n 3, 1) := dk_29 (dk_at dksX4_fold_5 13 rfl rfl)
theorem dX4_fold_130 : decode cX4_fold 130 = .ok (.bipush 17, 2) := dk_16 17 (dk_at dksX4_fold_5 14 rfl rfl)
theorem dX4_fold_132 : decode cX4_fold 132 = .ok (.invokestatic 50, 3) := dk_184 0 50 (dk_at dksX4_fold_5 16 rfl rfl)
theorem dX4_fold_135 : decode cX4_fold 135 = .ok (.iload_n 3, 1) := dk_29 (dk_at dksX4_fold_5 19 rfl rfl)
theorem dX4_fold_136 : decode cX4_fold 136 = .ok (.bipush 19, 2) := dk_16 19 (dk_at dksX4_fold_5 20 rfl rfl)
theorem dX4_fold_138 : decode cX4_fold 138 = .ok (.invokestatic 50, 3) := dk_184 0 50 (dk_at dksX4_fold_6 0 rfl rfl)
theorem dX4_fold_141 : decode cX4_fold 141 = .ok (.ixor, 1) := dk_130 (dk_at dksX4_fold_6 3 rfl rfl)
theorem dX4_fold_142 : decode cX4_fold 142 = .ok (.iload_n 3, 1) := dk_29 (dk_at dksX4_fold_6 4 rfl rfl)
theorem dX4_fold_143 : decode cX4_fold 143 = .ok (.bipush 10, 2) := dk_16 10 (dk_at dksX4_fold_6 5 rfl rfl)
theorem dX4_fold_145 : decode cX4_fold 145 = .ok (.iushr, 1) := dk_124 (dk_at dksX4_fold_6 7 rfl rfl)
theorem dX4_fold_146 : decode cX4_fold 146 = .ok (.ixor, 1) := dk_130 (dk_at dksX4_fold_6 8 rfl rfl)
theorem dX4_fold_147 : decode cX4_fold 147 = .ok (.istore 5, 2) := dk_54 5 (dk_at dksX4_fold_6 9 rfl rfl)
theorem dX4_fold_149 : decode cX4_fold 149 = .ok (.aload_n 0, 1) := dk_42 (dk_at dksX4_fold_6 11 rfl rfl)
theorem dX4_fold_150 : decode cX4_fold 150 = .ok (.getfield 15, 3) := dk_180 0 15 (dk_at dksX4_fold_6 12 rfl rfl)
theorem dX4_fold_153 : decode cX4_fold 153 = .ok (.iload_n 1, 1) := dk_27 (dk_at dksX4_fold_6 15 rfl rfl)
theorem dX4_fold_154 : decode cX4_fold 154 = .ok (.iload 5, 2) := dk_21 5 (dk_at dksX4_fold_6 16 rfl rfl)
theorem dX4_fold_156 : decode cX4_fold 156 = .ok (.aload_n 0, 1) := dk_42 (dk_at dksX4_fold_6 18 rfl rfl)
theorem dX4_fold_157 : decode cX4_fold 157 = .ok (.getfield 15, 3) := dk_180 0 15 (dk_at dksX4_fold_6 19 rfl rfl)
theorem dX4_fold_160 : decode cX4_fold 160 = .ok (.iload_n 1, 1) := dk_27 (dk_at dksX4_fold_6 22 rfl rfl)
theorem dX4_fold_161 : decode cX4_fold 161 = .ok (.bipush 7, 2) := dk_16 7 (dk_at dksX4_fold_7 0 rfl rfl)
theorem dX4_fold_163 : decode cX4_fold 163 = .ok (.isub, 1) := dk_100 (dk_at dksX4_fold_7 2 rfl rfl)
theorem dX4_fold_164 : decode cX4_fold 164 = .ok (.iaload, 1) := dk_46 (dk_at dksX4_fold_7 3 rfl rfl)
theorem dX4_fold_165 : decode cX4_fold 165 = .ok (.iadd, 1) := dk_96 (dk_at dksX4_fold_7 4 rfl rfl)
theorem dX4_fold_166 : decode cX4_fold 166 = .ok (.iload 4, 2) := dk_21 4 (dk_at dksX4_fold_7 5 rfl rfl)
theorem dX4_fold_168 : decode cX4_fold 168 = .ok (.iadd, 1) := dk_96 (dk_at dksX4_fold_7 7 rfl rfl)
theorem dX4_fold_169 : decode cX4_fold 169 = .ok (.aload_n 0, 1) := dk_42 (dk_at dksX4_fold_7 8 rfl rfl)
theorem dX4_fold_170 : decode cX4_fold 170 = .ok (.getfield 15, 3) := dk_180 0 15 (dk_at dksX4_fold_7 9 rfl rfl)
theorem dX4_fold_173 : decode cX4_fold 173 = .ok (.iload_n 1, 1) := dk_27 (dk_at dksX4_fold_7 12 rfl rfl)
theorem dX4_fold_174 : decode cX4_fold 174 = .ok (.bipush 16, 2) := dk_16 16 (dk_at dksX4_fold_7 13 rfl rfl)
theorem dX4_fold_176 : decode cX4_fold 176 = .ok (.isub, 1) := dk_100 (dk_at dksX4_fold_7 15 rfl rfl)
theorem dX4_fold_177 : decode cX4_fold 177 = .ok (.iaload, 1) := dk_46 (dk_at dksX4_fold_7 16 rfl rfl)
theorem dX4_fold_178 : decode cX4_fold 178 = .ok (.iadd, 1) := dk_96 (dk_at dksX4_fold_7 17 rfl rfl)
theorem dX4_fold_179 : decode cX4_fold 179 = .ok (.iastore, 1) := dk_79 (dk_at dksX4_fold_7 18 rfl rfl)
theorem dX4_fold_180 : decode cX4_fold 180 = .ok (.iinc 1 1, 3) := dk_132 1 1 (dk_at dksX4_fold_7 19 rfl rfl)
theorem dX4_fold_183 : decode cX4_fold 183 = .ok (.goto (-98), 3) := dk_167 255 158 (dk_at dksX4_fold_8 0 rfl rfl)
theorem dX4_fold_186 : decode cX4_fold 186 = .ok (.aload_n 0, 1) := dk_42 (dk_at dksX4_fold_8 3 rfl rfl)
theorem dX4_fold_187 : decode cX4_fold 187 = .ok (.getfield 9, 3) := dk_180 0 9 (dk_at dksX4_fold_8 4 rfl rfl)
theorem dX4_fold_190 : decode cX4_fold 190 = .ok (.iconst 0, 1) := dk_3 (dk_at dksX4_fold_8 7 rfl rfl)
theorem dX4_fold_191 : decode cX4_fold 191 = .ok (.iaload, 1) := dk_46 (dk_at dksX4_fold_8 8 rfl rfl)
theorem dX4_fold_192 : decode cX4_fold 192 = .ok (.istore_n 1, 1) := dk_60 (dk_at dksX4_fold_8 9 rfl rfl)
theorem dX4_fold_193 : decode cX4_fold 193 = .ok (.aload_n 0, 1) := dk_42 (dk_at dksX4_fold_8 10 rfl rfl)
theorem dX4_fold_194 : decode cX4_fold 194 = .ok (.getfield 9, 3) := dk_180 0 9 (dk_at dksX4_fold_8 11 rfl rfl)
theorem dX4_fold_197 : decode cX4_fold 197 = .ok (.iconst 1, 1) := dk_4 (dk_at dksX4_fold_8 14 rfl rfl)
theorem dX4_fold_198 : decode cX4_fold 198 = .ok (.iaload, 1) := dk_46 (dk_at dksX4_fold_8 15 rfl rfl)
theorem dX4_fold_199 : decode cX4_fold 199 = .ok (.istore_n 2, 1) := dk_61 (dk_at dksX4_fold_8 16 rfl rfl)
theorem dX4_fold_200 : decode cX4_fold 200 = .ok (.aload_n 0, 1) := dk_42 (dk_at dksX4_fold_8 17 rfl rfl)
theorem dX4_fold_201 : decode cX4_fold 201 = .ok (.getfield 9, 3) := dk_180 0 9 (dk_at dksX4_fold_8 18 rfl rfl)
theorem dX4_fold_204 : decode cX4_fold 204 = .ok (.iconst 2, 1) := dk_5 (dk_at dksX4_fold_8 21 rfl rfl)
theorem dX4_fold_205 : decode cX4_fold 205 = .ok (.iaload, 1) := dk_46 (dk_at dksX4_fold_8 22 rfl rfl)
theorem dX4_fold_206 : decode cX4_fold 206 = .ok (.istore_n 3, 1) := dk_62 (dk_at dksX4_fold_8 23 rfl rfl)
theorem dX4_fold_207 : decode cX4_fold 207 = .ok (.aload_n 0, 1) := dk_42 (dk_at dksX4_fold_9 0 rfl rfl)
theorem dX4_fold_208 : decode cX4_fold 208 = .ok (.getfield 9, 3) := dk_180 0 9 (dk_at dksX4_fold_9 1 rfl rfl)
theorem dX4_fold_211 : decode cX4_fold 211 = .ok (.iconst 3, 1) := dk_6 (dk_at dksX4_fold_9 4 rfl rfl)
theorem dX4_fold_212 : decode cX4_fold 212 = .ok (.iaload, 1) := dk_46 (dk_at dksX4_fold_9 5 rfl rfl)
theorem dX4_fold_213 : decode cX4_fold 213 = .ok (.istore 4, 2) := dk_54 4 (dk_at dksX4_fold_9 6 rfl rfl)
theorem dX4_fold_215 : decode cX4_fold 215 = .ok (.aload_n 0, 1) := dk_42 (dk_at dksX4_fold_9 8 rfl rfl)
theorem dX4_fold_216 : decode cX4_fold 216 = .ok (.getfield 9, 3) := dk_180 0 9 (dk_at dksX4_fold_9 9 rfl rfl)
theorem dX4_fold_219 : decode cX4_fold 219 = .ok (.iconst 4, 1) := dk_7 (dk_at dksX4_fold_9 12 rfl rfl)
theorem dX4_fold_220 : decode cX4_fold 220 = .ok (.iaload, 1) := dk_46 (dk_at dksX4_fold_9 13 rfl rfl)
theorem dX4_fold_221 : decode cX4_fold 221 = .ok (.istore 5, 2) := dk_54 5 (dk_at dksX4_fold_9 14 rfl rfl)
theorem dX4_fold_223 : decode cX4_fold 223 = .ok (.aload_n 0, 1) := dk_42 (dk_at dksX4_fold_9 16 rfl rfl)
theorem dX4_fold_224 : decode cX4_fold 224 = .ok (.getfield 9, 3) := dk_180 0 9 (dk_at dksX4_fold_9 17 rfl rfl)
theorem dX4_fold_227 : decode cX4_fold 227 = .ok (.iconst 5, 1) := dk_8 (dk_at dksX4_fold_9 20 rfl rfl)
theorem dX4_fold_228 : decode cX4_fold 228 = .ok (.iaload, 1) := dk_46 (dk_at dksX4_fold_9 21 rfl rfl)
theorem dX4_fold_229 : decode cX4_fold 229 = .ok (.istore 6, 2) := dk_54 6 (dk_at dksX4_fold_9 22 rfl rfl)
theorem dX4_fold_231 : decode cX4_fold 231 = .ok (.aload_n 0, 1) := dk_42 (dk_at dksX4_fold_10 0 rfl rfl)
theorem dX4_fold_232 : decode cX4_fold 232 = .ok (.getfield 9, 3) := dk_180 0 9 (dk_at dksX4_fold_10 1 rfl rfl)
theorem dX4_fold_235 : decode cX4_fold 235 = .ok (.bipush 6, 2) := dk_16 6 (dk_at dksX4_fold_10 4 rfl rfl)
theorem dX4_fold_237 : decode cX4_fold 237 = .ok (.iaload, 1) := dk_46 (dk_at dksX4_fold_10 6 rfl rfl)
theorem dX4_fold_238 : decode cX4_fold 238 = .ok (.istore 7, 2) := dk_54 7 (dk_at dksX4_fold_10 7 rfl rfl)
theorem dX4_fold_240 : decode cX4_fold 240 = .ok (.aload_n 0, 1) := dk_42 (dk_at dksX4_fold_10 9 rfl rfl)
theorem dX4_fold_241 : decode cX4_fold 241 = .ok (.getfield 9, 3) := dk_180 0 9 (dk_at dksX4_fold_10 10 rfl rfl)
theorem dX4_fold_244 : decode cX4_fold 244 = .ok (.bipush 7, 2) := dk_16 7 (dk_at dksX4_fold_10 13 rfl rfl)
theorem dX4_fold_246 : decode cX4_fold 246 = .ok (.iaload, 1) := dk_46 (dk_at dksX4_fold_10 15 rfl rfl)
theorem dX4_fold_247 : decode cX4_fold 247 = .ok (.istore 8, 2) := dk_54 8 (dk_at dksX4_fold_10 16 rfl rfl)
theorem dX4_fold_249 : decode cX4_fold 249 = .ok (.iconst 0, 1) := dk_3 (dk_at dksX4_fold_10 18 rfl rfl)
theorem dX4_fold_250 : decode cX4_fold 250 = .ok (.istore 9, 2) := dk_54 9 (dk_at dksX4_fold_10 19 rfl rfl)
theorem dX4_fold_252 : decode cX4_fold 252 = .ok (.iload 9, 2) := dk_21 9 (dk_at dksX4_fold_10 21 rfl rfl)
theorem dX4_fold_254 : decode cX4_fold 254 = .ok (.bipush 64, 2) := dk_16 64 (dk_at dksX4_fold_11 0 rfl rfl)
theorem dX4_fold_256 : decode cX4_fold 256 = .ok (.if_icmp .ge 139, 3) := dk_162 0 139 (dk_at dksX4_fold_11 2 rfl rfl)
theorem dX4_fold_259 : decode cX4_fold 259 = .ok (.iload 5, 2) := dk_21 5 (dk_at dksX4_fold_11 5 rfl rfl)
theorem dX4_fold_261 : decode cX4_fold 261 = .ok (.bipush 6, 2) := dk_16 6 (dk_at dksX4_fold_11 7 rfl rfl)
theorem dX4_fold_263 : decode cX4_fold 263 = .ok (.invokestatic 50, 3) := dk_184 0 50 (dk_at dksX4_fold_11 9 rfl rfl)
theorem dX4_fold_266 : decode cX4_fold 266 = .ok (.iload 5, 2) := dk_21 5 (dk_at dksX4_fold_11 12 rfl rfl)
theorem dX4_fold_268 : decode cX4_fold 268 = .ok (.bipush 11, 2) := dk_16 11 (dk_at dksX4_fold_11 14 rfl rfl)
theorem dX4_fold_270 : decode cX4_fold 270 = .ok (.invokestatic 50, 3) := dk_184 0 50 (dk_at dksX4_fold_11 16 rfl rfl)
theorem dX4_fold_273 : decode cX4_fold 273 = .ok (.ixor, 1) := dk_130 (dk_at dksX4_fold_11 19 rfl rfl)
theorem dX4_fold_274 : decode cX4_fold 274 = .ok (.iload 5, 2) := dk_21 5 (dk_at dksX4_fold_11 20 rfl rfl)
theorem dX4_fold_276 : decode cX4_fold 276 = .ok (.bipush 25, 2) := dk_16 25 (dk_at dksX4_fold_11 22 rfl rfl)
theorem dX4_fold_278 : decode cX4_fold 278 = .ok (.invokestatic 50, 3) := dk_184 0 50 (dk_at dksX4_fold_12 0 rfl rfl)
theorem dX4_fold_281 : decode cX4_fold 281 = .ok (.ixor, 1) := dk_130 (dk_at dksX4_fold_12 3 rfl rfl)
theorem dX4_fold_282 : decode cX4_fold 282 = .ok (.istore 10, 2) := dk_54 10 (dk_at dksX4_fold_12 4 rfl rfl)
theorem dX4_fold_284 : decode cX4_fold 284 = .ok (.iload 8, 2) := dk_21 8 (dk_at dksX4_fold_12 6 rfl rfl)
theorem dX4_fold_286 : decode cX4_fold 286 = .ok (.iload 10, 2) := dk_21 10 (dk_at dksX4_fold_12 8 rfl rfl)
theorem dX4_fold_288 : decode cX4_fold 288 = .ok (.iadd, 1) := dk_96 (dk_at dksX4_fold_12 10 rfl rfl)
theorem dX4_fold_289 : decode cX4_fold 289 = .ok (.iload 5, 2) := dk_21 5 (dk_at dksX4_fold_12 11 rfl rfl)
theorem dX4_fold_291 : decode cX4_fold 291 = .ok (.iload 6, 2) := dk_21 6 (dk_at dksX4_fold_12 13 rfl rfl)
theorem dX4_fold_293 : decode cX4_fold 293 = .ok (.iand, 1) := dk_126 (dk_at dksX4_fold_12 15 rfl rfl)
theorem dX4_fold_294 : decode cX4_fold 294 = .ok (.iload 5, 2) := dk_21 5 (dk_at dksX4_fold_12 16 rfl rfl)
theorem dX4_fold_296 : decode cX4_fold 296 = .ok (.iconst (-1), 1) := dk_2 (dk_at dksX4_fold_12 18 rfl rfl)
theorem dX4_fold_297 : decode cX4_fold 297 = .ok (.ixor, 1) := dk_130 (dk_at dksX4_fold_12 19 rfl rfl)
theorem dX4_fold_298 : decode cX4_fold 298 = .ok (.iload 7, 2) := dk_21 7 (dk_at dksX4_fold_12 20 rfl rfl)
theorem dX4_fold_300 : decode cX4_fold 300 = .ok (.iand, 1) := dk_126 (dk_at dksX4_fold_12 22 rfl rfl)
theorem dX4_fold_301 : decode cX4_fold 301 = .ok (.ixor, 1) := dk_130 (dk_at dksX4_fold_12 23 rfl rfl)
theorem dX4_fold_302 : decode cX4_fold 302 = .ok (.iadd, 1) := dk_96 (dk_at dksX4_fold_13 0 rfl rfl)
theorem dX4_fold_303 : decode cX4_fold 303 = .ok (.aload_n 0, 1) := dk_42 (dk_at dksX4_fold_13 1 rfl rfl)
theorem dX4_fold_304 : decode cX4_fold 304 = .ok (.getfield 22, 3) := dk_180 0 22 (dk_at dksX4_fold_13 2 rfl rfl)
theorem dX4_fold_307 : decode cX4_fold 307 = .ok (.getfield 56, 3) := dk_180 0 56 (dk_at dksX4_fold_13 5 rfl rfl)
theorem dX4_fold_310 : decode cX4_fold 310 = .ok (.iload 9, 2) := dk_21 9 (dk_at dksX4_fold_13 8 rfl rfl)
theorem dX4_fold_312 : decode cX4_fold 312 = .ok (.iaload, 1) := dk_46 (dk_at dksX4_fold_13 10 rfl rfl)
theorem dX4_fold_313 : decode cX4_fold 313 = .ok (.iadd, 1) := dk_96 (dk_at dksX4_fold_13 11 rfl rfl)
theorem dX4_fold_314 : decode cX4_fold 314 = .ok (.aload_n 0, 1) := dk_42 (dk_at dksX4_fold_13 12 rfl rfl)
theorem dX4_fold_315 : decode cX4_fold 315 = .ok (.getfield 15, 3) := dk_180 0 15 (dk_at dksX4_fold_13 13 rfl rfl)
theorem dX4_fold_318 : decode cX4_fold 318 = .ok (.iload 9, 2) := dk_21 9 (dk_at dksX4_fold_13 16 rfl rfl)
theorem dX4_fold_320 : decode cX4_fold 320 = .ok (.iaload, 1) := dk_46 (dk_at dksX4_fold_13 18 rfl rfl)
theorem dX4_fold_321 : decode cX4_fold 321 = .ok (.iadd, 1) := dk_96 (dk_at dksX4_fold_13 19 rfl rfl)
theorem dX4_fold_322 : decode cX4_fold 322 = .ok (.istore 11, 2) := dk_54 11 (dk_at dksX4_fold_13 20 rfl rfl)
theorem dX4_fold_324 : decode cX4_fold 324 = .ok (.iload_n 1, 1) := dk_27 (dk_at dksX4_fold_13 22 rfl rfl)
theorem dX4_fold_325 : decode cX4_fold 325 = .ok (.iconst 2, 1) := dk_5 (dk_at dksX4_fold_13 23 rfl rfl)
theorem dX4_fold_326 : decode cX4_fold 326 = .ok (.invokestatic 50, 3) := dk_184 0 50 (dk_at dksX4_fold_14 0 rfl rfl)
theorem dX4_fold_329 : decode cX4_fold 329 = .ok (.iload_n 1, 1) := dk_27 (dk_at dksX4_fold_14 3 rfl rfl)
theorem dX4_fold_330 : decode cX4_fold 330 = .ok (.bipush 13, 2) := dk_16 13 (dk_at dksX4_fold_14 4 rfl rfl)
theorem dX4_fold_332 : decode cX4_fold 332 = .ok (.invokestatic 50, 3) := dk_184 0 50 (dk_at dksX4_fold_14 6 rfl rfl)
theorem dX4_fold_335 : decode cX4_fold 335 = .ok (.ixor, 1) := dk_130 (dk_at dksX4_fold_14 9 rfl rfl)
theorem dX4_fold_336 : decode cX4_fold 336 = .ok (.iload_n 1, 1) := dk_27 (dk_at dksX4_fold_14 10 rfl rfl)
theorem dX4_fold_337 : decode cX4_fold 337 = .ok (.bipush 22, 2) := dk_16 22 (dk_at dksX4_fold_14 11 rfl rfl)
theorem dX4_fold_339 : decode cX4_fold 339 = .ok (.invokestatic 50, 3) := dk_184 0 50 (dk_at dksX4_fold_14 13 rfl rfl)
theorem dX4_fold_342 : decode cX4_fold 342 = .ok (.ixor, 1) := dk_130 (dk_at dksX4_fold_14 16 rfl rfl)
theorem dX4_fold_343 : decode cX4_fold 343 = .ok (.iload_n 1, 1) := dk_27 (dk_at dksX4_fold_14 17 rfl rfl)
theorem dX4_fold_344 : decode cX4_fold 344 = .ok (.iload_n 2, 1) := dk_28 (dk_at dksX4_fold_14 18 rfl rfl)
theorem dX4_fold_345 : decode cX4_fold 345 = .ok (.iand, 1) := dk_126 (dk_at dksX4_fold_14 19 rfl rfl)
theorem dX4_fold_346 : decode cX4_fold 346 = .ok (.iload_n 1, 1) := dk_27 (dk_at dksX4_fold_14 20 rfl rfl)
theorem dX4_fold_347 : decode cX4_fold 347 = .ok (.iload_n 3, 1) := dk_29 (dk_at dksX4_fold_14 21 rfl rfl)
theorem dX4_fold_348 : decode cX4_fold 348 = .ok (.iand, 1) := dk_126 (dk_at dksX4_fold_14 22 rfl rfl)
theorem dX4_fold_349 : decode cX4_fold 349 = .ok (.ixor, 1) := dk_130 (dk_at dksX4_fold_14 23 rfl rfl)
theorem dX4_fold_350 : decode cX4_fold 350 = .ok (.iload_n 2, 1) := dk_28 (dk_at dksX4_fold_15 0 rfl rfl)
theorem dX4_fold_351 : decode cX4_fold 351 = .ok (.iload_n 3, 1) := dk_29 (dk_at dksX4_fold_15 1 rfl rfl)
theorem dX4_fold_352 : decode cX4_fold 352 = .ok (.iand, 1) := dk_126 (dk_at dksX4_fold_15 2 rfl rfl)
theorem dX4_fold_353 : decode cX4_fold 353 = .ok (.ixor, 1) := dk_130 (dk_at dksX4_fold_15 3 rfl rfl)
theorem dX4_fold_354 : decode cX4_fold 354 = .ok (.iadd, 1) := dk_96 (dk_at dksX4_fold_15 4 rfl rfl)
theorem dX4_fold_355 : decode cX4_fold 355 = .ok (.istore 12, 2) := dk_54 12 (dk_at dksX4_fold_15 5 rfl rfl)
theorem dX4_fold_357 : decode cX4_fold 357 = .ok (.iload 7, 2) := dk_21 7 (dk_at dksX4_fold_15 7 rfl rfl)
theorem dX4_fold_359 : decode cX4_fold 359 = .ok (.istore 8, 2) := dk_54 8 (dk_at dksX4_fold_15 9 rfl rfl)
theorem dX4_fold_361 : decode cX4_fold 361 = .ok (.iload 6, 2) := dk_21 6 (dk_at dksX4_fold_15 11 rfl rfl)
theorem dX4_fold_363 : decode cX4_fold 363 = .ok (.istore 7, 2) := dk_54 7 (dk_at dksX4_fold_15 13 rfl rfl)
theorem dX4_fold_365 : decode cX4_fold 365 = .ok (.iload 5, 2) := dk_21 5 (dk_at dksX4_fold_15 15 rfl rfl)
theorem dX4_fold_367 : decode cX4_fold 367 = .ok (.istore 6, 2) := dk_54 6 (dk_at dksX4_fold_15 17 rfl rfl)
theorem dX4_fold_369 : decode cX4_fold 369 = .ok (.iload 4, 2) := dk_21 4 (dk_at dksX4_fold_15 19 rfl rfl)
theorem dX4_fold_371 : decode cX4_fold 371 = .ok (.iload 11, 2) := dk_21 11 (dk_at dksX4_fold_15 21 rfl rfl)
theorem dX4_fold_373 : decode cX4_fold 373 = .ok (.iadd, 1) := dk_96 (dk_at dksX4_fold_15 23 rfl rfl)
theorem dX4_fold_374 : decode cX4_fold 374 = .ok (.istore 5, 2) := dk_54 5 (dk_at dksX4_fold_16 0 rfl rfl)
theorem dX4_fold_376 : decode cX4_fold 376 = .ok (.iload_n 3, 1) := dk_29 (dk_at dksX4_fold_16 2 rfl rfl)
theorem dX4_fold_377 : decode cX4_fold 377 = .ok (.istore 4, 2) := dk_54 4 (dk_at dksX4_fold_16 3 rfl rfl)
theorem dX4_fold_379 : decode cX4_fold 379 = .ok (.iload_n 2, 1) := dk_28 (dk_at dksX4_fold_16 5 rfl rfl)
theorem dX4_fold_380 : decode cX4_fold 380 = .ok (.istore_n 3, 1) := dk_62 (dk_at dksX4_fold_16 6 rfl rfl)
theorem dX4_fold_381 : decode cX4_fold 381 = .ok (.iload_n 1, 1) := dk_27 (dk_at dksX4_fold_16 7 rfl rfl)
theorem dX4_fold_382 : decode cX4_fold 382 = .ok (.istore_n 2, 1) := dk_61 (dk_at dksX4_fold_16 8 rfl rfl)
theorem dX4_fold_383 : decode cX4_fold 383 = .ok (.iload 11, 2) := dk_21 11 (dk_at dksX4_fold_16 9 rfl rfl)
theorem dX4_fold_385 : decode cX4_fold 385 = .ok (.iload 12, 2) := dk_21 12 (dk_at dksX4_fold_16 11 rfl rfl)
theorem dX4_fold_387 : decode cX4_fold 387 = .ok (.iadd, 1) := dk_96 (dk_at dksX4_fold_16 13 rfl rfl)
theorem dX4_fold_388 : decode cX4_fold 388 = .ok (.istore_n 1, 1) := dk_60 (dk_at dksX4_fold_16 14 rfl rfl)
theorem dX4_fold_389 : decode cX4_fold 389 = .ok (.iinc 9 1, 3) := dk_132 9 1 (dk_at dksX4_fold_16 15 rfl rfl)
theorem dX4_fold_392 : decode cX4_fold 392 = .ok (.goto (-140), 3) := dk_167 255 116 (dk_at dksX4_fold_16 18 rfl rfl)
theorem dX4_fold_395 : decode cX4_fold 395 = .ok (.aload_n 0, 1) := dk_42 (dk_at dksX4_fold_16 21 rfl rfl)
theorem dX4_fold_396 : decode cX4_fold 396 = .ok (.getfield 9, 3) := dk_180 0 9 (dk_at dksX4_fold_17 0 rfl rfl)
theorem dX4_fold_399 : decode cX4_fold 399 = .ok (.iconst 0, 1) := dk_3 (dk_at dksX4_fold_17 3 rfl rfl)
theorem dX4_fold_400 : decode cX4_fold 400 = .ok (.dup2, 1) := dk_92 (dk_at dksX4_fold_17 4 rfl rfl)
theorem dX4_fold_401 : decode cX4_fold 401 = .ok (.iaload, 1) := dk_46 (dk_at dksX4_fold_17 5 rfl rfl)
theorem dX4_fold_402 : decode cX4_fold 402 = .ok (.iload_n 1, 1) := dk_27 (dk_at dksX4_fold_17 6 rfl rfl)
theorem dX4_fold_403 : decode cX4_fold 403 = .ok (.iadd, 1) := dk_96 (dk_at dksX4_fold_17 7 rfl rfl)
theorem dX4_fold_404 : decode cX4_fold 404 = .ok (.iastore, 1) := dk_79 (dk_at dksX4_fold_17 8 rfl rfl)
theorem dX4_fold_405 : decode cX4_fold 405 = .ok (.aload_n 0, 1) := dk_42 (dk_at dksX4_fold_17 9 rfl rfl)
theorem dX4_fold_406 : decode cX4_fold 406 = .ok (.getfield 9, 3) := dk_180 0 9 (dk_at dksX4_fold_17 10 rfl rfl)
theorem dX4_fold_409 : decode cX4_fold 409 = .ok (.iconst 1, 1) := dk_4 (dk_at dksX4_fold_17 13 rfl rfl)
theorem dX4_fold_410 : decode cX4_fold 410 = .ok (.dup2, 1) := dk_92 (dk_at dksX4_fold_17 14 rfl rfl)
theorem dX4_fold_411 : decode cX4_fold 411 = .ok (.iaload, 1) := dk_46 (dk_at dksX4_fold_17 15 rfl rfl)
theorem dX4_fold_412 : decode cX4_fold 412 = .ok (.iload_n 2, 1) := dk_28 (dk_at dksX4_fold_17 16 rfl rfl)
theorem dX4_fold_413 : decode cX4_fold 413 = .ok (.iadd, 1) := dk_96 (dk_at dksX4_fold_17 17 rfl rfl)
theorem dX4_fold_414 : decode cX4_fold 414 = .ok (.iastore, 1) := dk_79 (dk_at dksX4_fold_17 18 rfl rfl)
theorem dX4_fold_415 : decode cX4_fold 415 = .ok (.aload_n 0, 1) := dk_42 (dk_at dksX4_fold_17 19 rfl rfl)
theorem dX4_fold_416 : decode cX4_fold 416 = .ok (.getfield 9, 3) := dk_180 0 9 (dk_at dksX4_fold_17 20 rfl rfl)
theorem dX4_fold_419 : decode cX4_fold 419 = .ok (.iconst 2, 1) := dk_5 (dk_at dksX4_fold_17 23 rfl rfl)
theorem dX4_fold_420 : decode cX4_fold 420 = .ok (.dup2, 1) := dk_92 (dk_at dksX4_fold_18 0 rfl rfl)
theorem dX4_fold_421 : decode cX4_fold 421 = .ok (.iaload, 1) := dk_46 (dk_at dksX4_fold_18 1 rfl rfl)
theorem dX4_fold_422 : decode cX4_fold 422 = .ok (.iload_n 3, 1) := dk_29 (dk_at dksX4_fold_18 2 rfl rfl)
theorem dX4_fold_423 : decode cX4_fold 423 = .ok (.iadd, 1) := dk_96 (dk_at dksX4_fold_18 3 rfl rfl)
theorem dX4_fold_424 : decode cX4_fold 424 = .ok (.iastore, 1) := dk_79 (dk_at dksX4_fold_18 4 rfl rfl)
theorem dX4_fold_425 : decode cX4_fold 425 = .ok (.aload_n 0, 1) := dk_42 (dk_at dksX4_fold_18 5 rfl rfl)
theorem dX4_fold_426 : decode cX4_fold 426 = .ok (.getfield 9, 3) := dk_180 0 9 (dk_at dksX4_fold_18 6 rfl rfl)
theorem dX4_fold_429 : decode cX4_fold 429 = .ok (.iconst 3, 1) := dk_6 (dk_at dksX4_fold_18 9 rfl rfl)
theorem dX4_fold_430 : decode cX4_fold 430 = .ok (.dup2, 1) := dk_92 (dk_at dksX4_fold_18 10 rfl rfl)
theorem dX4_fold_431 : decode cX4_fold 431 = .ok (.iaload, 1) := dk_46 (dk_at dksX4_fold_18 11 rfl rfl)
theorem dX4_fold_432 : decode cX4_fold 432 = .ok (.iload 4, 2) := dk_21 4 (dk_at dksX4_fold_18 12 rfl rfl)
theorem dX4_fold_434 : decode cX4_fold 434 = .ok (.iadd, 1) := dk_96 (dk_at dksX4_fold_18 14 rfl rfl)
theorem dX4_fold_435 : decode cX4_fold 435 = .ok (.iastore, 1) := dk_79 (dk_at dksX4_fold_18 15 rfl rfl)
theorem dX4_fold_436 : decode cX4_fold 436 = .ok (.aload_n 0, 1) := dk_42 (dk_at dksX4_fold_18 16 rfl rfl)
theorem dX4_fold_437 : decode cX4_fold 437 = .ok (.getfield 9, 3) := dk_180 0 9 (dk_at dksX4_fold_18 17 rfl rfl)
theorem dX4_fold_440 : decode cX4_fold 440 = .ok (.iconst 4, 1) := dk_7 (dk_at dksX4_fold_18 20 rfl rfl)
theorem dX4_fold_441 : decode cX4_fold 441 = .ok (.dup2, 1) := dk_92 (dk_at dksX4_fold_18 21 rfl rfl)
theorem dX4_fold_442 : decode cX4_fold 442 = .ok (.iaload, 1) := dk_46 (dk_at dksX4_fold_18 22 rfl rfl)
theorem dX4_fold_443 : decode cX4_fold 443 = .ok (.iload 5, 2) := dk_21 5 (dk_at dksX4_fold_19 0 rfl rfl)
theorem dX4_fold_445 : decode cX4_fold 445 = .ok (.iadd, 1) := dk_96 (dk_at dksX4_fold_19 2 rfl rfl)
theorem dX4_fold_446 : decode cX4_fold 446 = .ok (.iastore, 1) := dk_79 (dk_at dksX4_fold_19 3 rfl rfl)
theorem dX4_fold_447 : decode cX4_fold 447 = .ok (.aload_n 0, 1) := dk_42 (dk_at dksX4_fold_19 4 rfl rfl)
theorem dX4_fold_448 : decode cX4_fold 448 = .ok (.getfield 9, 3) := dk_180 0 9 (dk_at dksX4_fold_19 5 rfl rfl)
theorem dX4_fold_451 : decode cX4_fold 451 = .ok (.iconst 5, 1) := dk_8 (dk_at dksX4_fold_19 8 rfl rfl)
theorem dX4_fold_452 : decode cX4_fold 452 = .ok (.dup2, 1) := dk_92 (dk_at dksX4_fold_19 9 rfl rfl)
theorem dX4_fold_453 : decode cX4_fold 453 = .ok (.iaload, 1) := dk_46 (dk_at dksX4_fold_19 10 rfl rfl)
theorem dX4_fold_454 : decode cX4_fold 454 = .ok (.iload 6, 2) := dk_21 6 (dk_at dksX4_fold_19 11 rfl rfl)
theorem dX4_fold_456 : decode cX4_fold 456 = .ok (.iadd, 1) := dk_96 (dk_at dksX4_fold_19 13 rfl rfl)
theorem dX4_fold_457 : decode cX4_fold 457 = .ok (.iastore, 1) := dk_79 (dk_at dksX4_fold_19 14 rfl rfl)
theorem dX4_fold_458 : decode cX4_fold 458 = .ok (.aload_n 0, 1) := dk_42 (dk_at dksX4_fold_19 15 rfl rfl)
theorem dX4_fold_459 : decode cX4_fold 459 = .ok (.getfield 9, 3) := dk_180 0 9 (dk_at dksX4_fold_19 16 rfl rfl)
theorem dX4_fold_462 : decode cX4_fold 462 = .ok (.bipush 6, 2) := dk_16 6 (dk_at dksX4_fold_19 19 rfl rfl)
theorem dX4_fold_464 : decode cX4_fold 464 = .ok (.dup2, 1) := dk_92 (dk_at dksX4_fold_19 21 rfl rfl)
theorem dX4_fold_465 : decode cX4_fold 465 = .ok (.iaload, 1) := dk_46 (dk_at dksX4_fold_19 22 rfl rfl)
theorem dX4_fold_466 : decode cX4_fold 466 = .ok (.iload 7, 2) := dk_21 7 (dk_at dksX4_fold_20 0 rfl rfl)
theorem dX4_fold_468 : decode cX4_fold 468 = .ok (.iadd, 1) := dk_96 (dk_at dksX4_fold_20 2 rfl rfl)
theorem dX4_fold_469 : decode cX4_fold 469 = .ok (.iastore, 1) := dk_79 (dk_at dksX4_fold_20 3 rfl rfl)
theorem dX4_fold_470 : decode cX4_fold 470 = .ok (.aload_n 0, 1) := dk_42 (dk_at dksX4_fold_20 4 rfl rfl)
theorem dX4_fold_471 : decode cX4_fold 471 = .ok (.getfield 9, 3) := dk_180 0 9 (dk_at dksX4_fold_20 5 rfl rfl)
theorem dX4_fold_474 : decode cX4_fold 474 = .ok (.bipush 7, 2) := dk_16 7 (dk_at dksX4_fold_20 8 rfl rfl)
theorem dX4_fold_476 : decode cX4_fold 476 = .ok (.dup2, 1) := dk_92 (dk_at dksX4_fold_20 10 rfl rfl)
theorem dX4_fold_477 : decode cX4_fold 477 = .ok (.iaload, 1) := dk_46 (dk_at dksX4_fold_20 11 rfl rfl)
theorem dX4_fold_478 : decode cX4_fold 478 = .ok (.iload 8, 2) := dk_21 8 (dk_at dksX4_fold_20 12 rfl rfl)
theorem dX4_fold_480 : decode cX4_fold 480 = .ok (.iadd, 1) := dk_96 (dk_at dksX4_fold_20 14 rfl rfl)
theorem dX4_fold_481 : decode cX4_fold 481 = .ok (.iastore, 1) := dk_79 (dk_at dksX4_fold_20 15 rfl rfl)
theorem dX4_fold_482 : decode cX4_fold 482 = .ok (.return_, 1) := dk_177 (dk_at dksX4_fold_20 16 rfl rfl)
abbrev cX4_end : ByteArray := prog_51_method_6_code
def yX4_end : MethodName := ⟨RX4, "end", "([BI)V"⟩
def dkwX4_end_4 : List UInt8 := [126, 104, 100, 124, 145, 84, 132, 5, 1, 167, 255, 219, 177]
abbrev dktX4_end_4 : List UInt8 := dkwX4_end_4 ++ []
def dkwX4_end_3 : List UInt8 := [162, 0, 36, 43, 28, 21, 5, 96, 42, 180, 0, 9, 21, 5, 5, 122, 46, 16, 24, 16, 8, 21, 5, 6]
abbrev dktX4_end_3 : List UInt8 := dkwX4_end_3 ++ dktX4_end_4
def dkwX4_end_2 : List UInt8 := [42, 33, 21, 5, 125, 136, 182, 0, 46, 132, 5, 248, 167, 255, 239, 3, 54, 5, 21, 5, 16, 32]
abbrev dktX4_end_2 : List UInt8 := dkwX4_end_2 ++ dktX4_end_3
def dkwX4_end_1 : List UInt8 := [20, 0, 61, 148, 153, 0, 11, 42, 3, 182, 0, 46, 167, 255, 236, 16, 56, 54, 5, 21, 5, 155, 0, 18]
abbrev dktX4_end_1 : List UInt8 := dkwX4_end_1 ++ dktX4_end_2
def dkwX4_end_0 : List UInt8 := [20, 0, 59, 42, 180, 0, 37, 105, 66, 42, 17, 0, 128, 182, 0, 46, 42, 180, 0, 37, 20, 0, 41, 127]
abbrev dktX4_end_0 : List UInt8 := dkwX4_end_0 ++ dktX4_end_1
theorem dksX4_end_0 : cX4_end.data.toList.drop 0 = dktX4_end_0 := by decide +kernel
theorem dksX4_end_1 : cX4_end.data.toList.drop 24 = dktX4_end_1 := dk_seg dksX4_end_0 24 rfl rfl
theorem dksX4_end_2 : cX4_end.data.toList.drop 48 = dktX4_end_2 := dk_seg dksX4_end_1 24 rfl rfl
theorem dksX4_end_3 : cX4_end.data.toList.drop 70 = dktX4_end_3 := dk_seg dksX4_end_2 22 rfl rfl
theorem dksX4_end_4 : cX4_end.data.toList.drop 94 = dktX4_end_4 := dk_seg dksX4_end_3 24 rfl rfl
theorem dX4_end_0 : decode cX4_end 0 = .ok (.ldc2_w 59, 3) := dk_20 0 59 (dk_at dksX4_end_0 0 rfl rfl)
theorem dX4_end_3 : decode cX4_end 3 = .ok (.aload_n 0, 1) := dk_42 (dk_at dksX4_end_0 3 rfl rfl)
theorem dX4_end_4 : decode cX4_end 4 = .ok (.getfield 37, 3) := dk_180 0 37 (dk_at dksX4_end_0 4 rfl rfl)
theorem dX4_end_7 : decode cX4_end 7 = .ok (.lmul, 1) := dk_105 (dk_at dksX4_end_0 7 rfl rfl)
theorem dX4_end_8 : decode cX4_end 8 = .ok (.lstore_n 3, 1) := dk_66 (dk_at dksX4_end_0 8 rfl rfl)
theorem dX4_end_9 : decode cX4_end 9 = .ok (.aload_n 0, 1) := dk_42 (dk_at dksX4_end_0 9 rfl rfl)
theorem dX4_end_10 : decode cX4_end 10 = .ok (.sipush 128, 3) := dk_17 0 128 (dk_at dksX4_end_0 10 rfl rfl)
theorem dX4_end_13 : decode cX4_end 13 = .ok (.invokevirtual 46, 3) := dk_182 0 46 (dk_at dksX4_end_0 13 rfl rfl)
theorem dX4_end_16 : decode cX4_end 16 = .ok (.aload_n 0, 1) := dk_42 (dk_at dksX4_end_0 16 rfl rfl)
theorem dX4_end_17 : decode cX4_end 17 = .ok (.getfield 37, 3) := dk_180 0 37 (dk_at dksX4_end_0 17 rfl rfl)
theorem dX4_end_20 : decode cX4_end 20 = .ok (.ldc2_w 41, 3) := dk_20 0 41 (dk_at dksX4_end_0 20 rfl rfl)
theorem dX4_end_23 : decode cX4_end 23 = .ok (.land, 1) := dk_127 (dk_at dksX4_end_0 23 rfl rfl)
theorem dX4_end_24 : decode cX4_end 24 = .ok (.ldc2_w 61, 3) := dk_20 0 61 (dk_at dksX4_end_1 0 rfl rfl)
theorem dX4_end_27 : decode cX4_end 27 = .ok (.lcmp, 1) := dk_148 (dk_at dksX4_end_1 3 rfl rfl)
theorem dX4_end_28 : decode cX4_end 28 = .ok (.ifCond .eq 11, 3) := dk_153 0 11 (dk_at dksX4_end_1 4 rfl rfl)
theorem dX4_end_31 : decode cX4_end 31 = .ok (.aload_n 0, 1) := dk_42 (dk_at dksX4_end_1 7 rfl rfl)
theorem dX4_end_32 : decode cX4_end 32 = .ok (.iconst 0, 1) := dk_3 (dk_at dksX4_end_1 8 rfl rfl)
theorem dX4_end_33 : decode cX4_end 33 = .ok (.invokevirtual 46, 3) := dk_182 0 46 (dk_at dksX4_end_1 9 rfl rfl)
theorem dX4_end_36 : decode cX4_end 36 = .ok (.goto (-20), 3) := dk_167 255 236 (dk_at dksX4_end_1 12 rfl rfl)
theorem dX4_end_39 : decode cX4_end 39 = .ok (.bipush 56, 2) := dk_16 56 (dk_at dksX4_end_1 15 rfl rfl)
theorem dX4_end_41 : decode cX4_end 41 = .ok (.istore 5, 2) := dk_54 5 (dk_at dksX4_end_1 17 rfl rfl)
theorem dX4_end_43 : decode cX4_end 43 = .ok (.iload 5, 2) := dk_21 5 (dk_at dksX4_end_1 19 rfl rfl)
theorem dX4_end_45 : decode cX4_end 45 = .ok (.ifCond .lt 18, 3) := dk_155 0 18 (dk_at dksX4_end_1 21 rfl rfl)
theorem dX4_end_48 : decode cX4_end 48 = .ok (.aload_n 0, 1) := dk_42 (dk_at dksX4_end_2 0 rfl rfl)
theorem dX4_end_49 : decode cX4_end 49 = .ok (.lload_n 3, 1) := dk_33 (dk_at dksX4_end_2 1 rfl rfl)
theorem dX4_end_50 : decode cX4_end 50 = .ok (.iload 5, 2) := dk_21 5 (dk_at dksX4_end_2 2 rfl rfl)
theorem dX4_end_52 : decode cX4_end 52 = .ok (.lushr, 1) := dk_125 (dk_at dksX4_end_2 4 rfl rfl)
theorem dX4_end_53 : decode cX4_end 53 = .ok (.l2i, 1) := dk_136 (dk_at dksX4_end_2 5 rfl rfl)
theorem dX4_end_54 : decode cX4_end 54 = .ok (.invokevirtual 46, 3) := dk_182 0 46 (dk_at dksX4_end_2 6 rfl rfl)
theorem dX4_end_57 : decode cX4_end 57 = .ok (.iinc 5 (-8), 3) := dk_132 5 248 (dk_at dksX4_end_2 9 rfl rfl)
theorem dX4_end_60 : decode cX4_end 60 = .ok (.goto (-17), 3) := dk_167 255 239 (dk_at dksX4_end_2 12 rfl rfl)
theorem dX4_end_63 : decode cX4_end 63 = .ok (.iconst 0, 1) := dk_3 (dk_at dksX4_end_2 15 rfl rfl)
theorem dX4_end_64 : decode cX4_end 64 = .ok (.istore 5, 2) := dk_54 5 (dk_at dksX4_end_2 16 rfl rfl)
theorem dX4_end_66 : decode cX4_end 66 = .ok (.iload 5, 2) := dk_21 5 (dk_at dksX4_end_2 18 rfl rfl)
theorem dX4_end_68 : decode cX4_end 68 = .ok (.bipush 32, 2) := dk_16 32 (dk_at dksX4_end_2 20 rfl rfl)
theorem dX4_end_70 : decode cX4_end 70 = .ok (.if_icmp .ge 36, 3) := dk_162 0 36 (dk_at dksX4_end_3 0 rfl rfl)
theorem dX4_end_73 : decode cX4_end 73 = .ok (.aload_n 1, 1) := dk_43 (dk_at dksX4_end_3 3 rfl rfl)
theorem dX4_end_74 : decode cX4_end 74 = .ok (.iload_n 2, 1) := dk_28 (dk_at dksX4_end_3 4 rfl rfl)
theorem dX4_end_75 : decode cX4_end 75 = .ok (.iload 5, 2) := dk_21 5 (dk_at dksX4_end_3 5 rfl rfl)
theorem dX4_end_77 : decode cX4_end 77 = .ok (.iadd, 1) := dk_96 (dk_at dksX4_end_3 7 rfl rfl)
theorem dX4_end_78 : decode cX4_end 78 = .ok (.aload_n 0, 1) := dk_42 (dk_at dksX4_end_3 8 rfl rfl)
theorem dX4_end_79 : decode cX4_end 79 = .ok (.getfield 9, 3) := dk_180 0 9 (dk_at dksX4_end_3 9 rfl rfl)
theorem dX4_end_82 : decode cX4_end 82 = .ok (.iload 5, 2) := dk_21 5 (dk_at dksX4_end_3 12 rfl rfl)
theorem dX4_end_84 : decode cX4_end 84 = .ok (.iconst 2, 1) := dk_5 (dk_at dksX4_end_3 14 rfl rfl)
theorem dX4_end_85 : decode cX4_end 85 = .ok (.ishr, 1) := dk_122 (dk_at dksX4_end_3 15 rfl rfl)
theorem dX4_end_86 : decode cX4_end 86 = .ok (.iaload, 1) := dk_46 (dk_at dksX4_end_3 16 rfl rfl)
theorem dX4_end_87 : decode cX4_end 87 = .ok (.bipush 24, 2) := dk_16 24 (dk_at dksX4_end_3 17 rfl rfl)
theorem dX4_end_89 : decode cX4_end 89 = .ok (.bipush 8, 2) := dk_16 8 (dk_at dksX4_end_3 19 rfl rfl)
theorem dX4_end_91 : decode cX4_end 91 = .ok (.iload 5, 2) := dk_21 5 (dk_at dksX4_end_3 21 rfl rfl)
theorem dX4_end_93 : decode cX4_end 93 = .ok (.iconst 3, 1) := dk_6 (dk_at dksX4_end_3 23 rfl rfl)
theorem dX4_end_94 : decode cX4_end 94 = .ok (.iand, 1) := dk_126 (dk_at dksX4_end_4 0 rfl rfl)
theorem dX4_end_95 : decode cX4_end 95 = .ok (.imul, 1) := dk_104 (dk_at dksX4_end_4 1 rfl rfl)
theorem dX4_end_96 : decode cX4_end 96 = .ok (.isub, 1) := dk_100 (dk_at dksX4_end_4 2 rfl rfl)
theorem dX4_end_97 : decode cX4_end 97 = .ok (.iushr, 1) := dk_124 (dk_at dksX4_end_4 3 rfl rfl)
theorem dX4_end_98 : decode cX4_end 98 = .ok (.i2b, 1) := dk_145 (dk_at dksX4_end_4 4 rfl rfl)
theorem dX4_end_99 : decode cX4_end 99 = .ok (.bastore, 1) := dk_84 (dk_at dksX4_end_4 5 rfl rfl)
theorem dX4_end_100 : decode cX4_end 100 = .ok (.iinc 5 1, 3) := dk_132 5 1 (dk_at dksX4_end_4 6 rfl rfl)
theorem dX4_end_103 : decode cX4_end 103 = .ok (.goto (-37), 3) := dk_167 255 219 (dk_at dksX4_end_4 9 rfl rfl)
theorem dX4_end_106 : decode cX4_end 106 = .ok (.return_, 1) := dk_177 (dk_at dksX4_end_4 12 rfl rfl)
theorem q396 : (Jvm.Cond.initialized "WasteHouse$TicketChain$Sum") ∈ lw_all := lw_g (lw_at lw_m1 4 rfl) rfl
theorem q527 : (Jvm.Cond.instantiable "WasteHouse$TicketChain$Sum" (5 : Nat)) ∈ lw_all := lw_g (lw_at lw_m1 135 rfl) rfl
theorem q549 : (Jvm.Cond.fieldLink "WasteHouse$TicketChain$Sum" (56 : Nat) "WasteHouse$TicketChain$Fixed" "cubes" "[I") ∈ lw_all := lw_g (lw_at lw_m1 157 rfl) rfl
theorem q551 : (Jvm.Cond.fieldLink "WasteHouse$TicketChain$Sum" (26 : Nat) "WasteHouse$TicketChain$Fixed" "squares" "[I") ∈ lw_all := lw_g (lw_at lw_m1 159 rfl) rfl
theorem q559 : (Jvm.Cond.instanceMethod ({ cls := "WasteHouse$TicketChain$Sum", name := "<init>", desc := "(LWasteHouse$TicketChain$Fixed;)V" } : Jvm.MethodName)) ∈ lw_all := lw_g (lw_at lw_m1 167 rfl) rfl
theorem q560 : (Jvm.Cond.code ({ cls := "WasteHouse$TicketChain$Sum", name := "<init>", desc := "(LWasteHouse$TicketChain$Fixed;)V" } : Jvm.MethodName) prog_51_method_1_code (2 : Nat) (Option.none : Option Jvm.ClassFile.FieldType)) ∈ lw_all := lw_g (lw_at lw_m1 168 rfl) rfl
theorem q561 : (Jvm.Cond.methodLink "WasteHouse$TicketChain$Sum" (3 : Nat) ({ cls := "java/lang/Object", name := "<init>", desc := "()V" } : Jvm.MethodName)) ∈ lw_all := lw_g (lw_at lw_m1 169 rfl) rfl
theorem q562 : (Jvm.Cond.fieldLink "WasteHouse$TicketChain$Sum" (22 : Nat) "WasteHouse$TicketChain$Sum" "fixed" "LWasteHouse$TicketChain$Fixed;") ∈ lw_all := lw_g (lw_at lw_m1 170 rfl) rfl
theorem q563 : (Jvm.Cond.fieldLink "WasteHouse$TicketChain$Sum" (9 : Nat) "WasteHouse$TicketChain$Sum" "state" "[I") ∈ lw_all := lw_g (lw_at lw_m1 171 rfl) rfl
theorem q564 : (Jvm.Cond.fieldLink "WasteHouse$TicketChain$Sum" (15 : Nat) "WasteHouse$TicketChain$Sum" "words" "[I") ∈ lw_all := lw_g (lw_at lw_m1 172 rfl) rfl
theorem q565 : (Jvm.Cond.fieldLink "WasteHouse$TicketChain$Sum" (18 : Nat) "WasteHouse$TicketChain$Sum" "block" "[B") ∈ lw_all := lw_g (lw_at lw_m1 173 rfl) rfl
theorem q566 : (Jvm.Cond.fieldLink "WasteHouse$TicketChain$Sum" (37 : Nat) "WasteHouse$TicketChain$Sum" "length" "J") ∈ lw_all := lw_g (lw_at lw_m1 174 rfl) rfl
theorem q567 : (Jvm.Cond.laysFinal "WasteHouse$TicketChain$Sum" "WasteHouse$TicketChain$Sum" "fixed" "LWasteHouse$TicketChain$Fixed;") ∈ lw_all := lw_g (lw_at lw_m1 175 rfl) rfl
theorem q568 : (Jvm.Cond.soleField "WasteHouse$TicketChain$Sum" "fixed") ∈ lw_all := lw_g (lw_at lw_m1 176 rfl) rfl
theorem q569 : (Jvm.Cond.laysFinal "WasteHouse$TicketChain$Sum" "WasteHouse$TicketChain$Sum" "state" "[I") ∈ lw_all := lw_g (lw_at lw_m1 177 rfl) rfl
theorem q570 : (Jvm.Cond.soleField "WasteHouse$TicketChain$Sum" "state") ∈ lw_all := lw_g (lw_at lw_m1 178 rfl) rfl
theorem q571 : (Jvm.Cond.laysFinal "WasteHouse$TicketChain$Sum" "WasteHouse$TicketChain$Sum" "words" "[I") ∈ lw_all := lw_g (lw_at lw_m1 179 rfl) rfl
theorem q572 : (Jvm.Cond.soleField "WasteHouse$TicketChain$Sum" "words") ∈ lw_all := lw_g (lw_at lw_m1 180 rfl) rfl
theorem q573 : (Jvm.Cond.laysFinal "WasteHouse$TicketChain$Sum" "WasteHouse$TicketChain$Sum" "block" "[B") ∈ lw_all := lw_g (lw_at lw_m1 181 rfl) rfl
theorem q574 : (Jvm.Cond.soleField "WasteHouse$TicketChain$Sum" "block") ∈ lw_all := lw_g (lw_at lw_m1 182 rfl) rfl
theorem q575 : (Jvm.Cond.lays "WasteHouse$TicketChain$Sum" "WasteHouse$TicketChain$Sum" "length" "J") ∈ lw_all := lw_g (lw_at lw_m1 183 rfl) rfl
theorem q576 : (Jvm.Cond.soleField "WasteHouse$TicketChain$Sum" "length") ∈ lw_all := lw_g (lw_at lw_m1 184 rfl) rfl
theorem q577 : (Jvm.Cond.superclass "WasteHouse$TicketChain$Sum" "java/lang/Object") ∈ lw_all := lw_g (lw_at lw_m1 185 rfl) rfl
theorem q2020 : (Jvm.Cond.selects "WasteHouse$TicketChain$Sum" ({ cls := "java/lang/Object", name := "getClass", desc := "()Ljava/lang/Class;" } : Jvm.MethodName) ({ cls := "java/lang/Object", name := "getClass", desc := "()Ljava/lang/Class;" } : Jvm.MethodName)) ∈ lw_all := lw_g (lw_at lw_m7 188 rfl) rfl
theorem q3130 : (Jvm.Cond.selects "WasteHouse$TicketChain$Sum" ({ cls := "java/lang/Object", name := "equals", desc := "(Ljava/lang/Object;)Z" } : Jvm.MethodName) ({ cls := "java/lang/Object", name := "equals", desc := "(Ljava/lang/Object;)Z" } : Jvm.MethodName)) ∈ lw_all := lw_g (lw_at lw_m12 98 rfl) rfl
theorem q3648 : (Jvm.Cond.selects "WasteHouse$TicketChain$Sum" ({ cls := "java/lang/Object", name := "hashCode", desc := "()I" } : Jvm.MethodName) ({ cls := "java/lang/Object", name := "hashCode", desc := "()I" } : Jvm.MethodName)) ∈ lw_all := lw_g (lw_at lw_m14 136 rfl) rfl
theorem q5187 : (Jvm.Cond.instanceMethod ({ cls := "WasteHouse$TicketChain$Sum", name := "begin", desc := "()V" } : Jvm.MethodName)) ∈ lw_all := lw_g (lw_at lw_m20 235 rfl) rfl
theorem q5188 : (Jvm.Cond.selects "WasteHouse$TicketChain$Sum" ({ cls := "WasteHouse$TicketChain$Sum", name := "begin", desc := "()V" } : Jvm.MethodName) ({ cls := "WasteHouse$TicketChain$Sum", name := "begin", desc := "()V" } : Jvm.MethodName)) ∈ lw_all := lw_g (lw_at lw_m20 236 rfl) rfl
theorem q5189 : (Jvm.Cond.code ({ cls := "WasteHouse$TicketChain$Sum", name := "begin", desc := "()V" } : Jvm.MethodName) prog_51_method_2_code (1 : Nat) (Option.none : Option Jvm.ClassFile.FieldType)) ∈ lw_all := lw_g (lw_at lw_m20 237 rfl) rfl
theorem q5190 : (Jvm.Cond.methodLink "WasteHouse$TicketChain$Sum" (31 : Nat) ({ cls := "java/lang/System", name := "arraycopy", desc := "(Ljava/lang/Object;ILjava/lang/Object;II)V" } : Jvm.MethodName)) ∈ lw_all := lw_g (lw_at lw_m20 238 rfl) rfl
theorem q5192 : (Jvm.Cond.instanceMethod ({ cls := "WasteHouse$TicketChain$Sum", name := "take", desc := "([BII)V" } : Jvm.MethodName)) ∈ lw_all := lw_g (lw_at lw_m21 0 rfl) rfl
theorem q5193 : (Jvm.Cond.selects "WasteHouse$TicketChain$Sum" ({ cls := "WasteHouse$TicketChain$Sum", name := "take", desc := "([BII)V" } : Jvm.MethodName) ({ cls := "WasteHouse$TicketChain$Sum", name := "take", desc := "([BII)V" } : Jvm.MethodName)) ∈ lw_all := lw_g (lw_at lw_m21 1 rfl) rfl
theorem q5194 : (Jvm.Cond.code ({ cls := "WasteHouse$TicketChain$Sum", name := "take", desc := "([BII)V" } : Jvm.MethodName) prog_51_method_4_code (5 : Nat) (Option.none : Option Jvm.ClassFile.FieldType)) ∈ lw_all := lw_g (lw_at lw_m21 2 rfl) rfl
theorem q5195 : (Jvm.Cond.methodLink "WasteHouse$TicketChain$Sum" (46 : Nat) ({ cls := "WasteHouse$TicketChain$Sum", name := "take", desc := "(I)V" } : Jvm.MethodName)) ∈ lw_all := lw_g (lw_at lw_m21 3 rfl) rfl
theorem q5196 : (Jvm.Cond.instanceMethod ({ cls := "WasteHouse$TicketChain$Sum", name := "take", desc := "(I)V" } : Jvm.MethodName)) ∈ lw_all := lw_g (lw_at lw_m21 4 rfl) rfl
theorem q5197 : (Jvm.Cond.selects "WasteHouse$TicketChain$Sum" ({ cls := "WasteHouse$TicketChain$Sum", name := "take", desc := "(I)V" } : Jvm.MethodName) ({ cls := "WasteHouse$TicketChain$Sum", name := "take", desc := "(I)V" } : Jvm.MethodName)) ∈ lw_all := lw_g (lw_at lw_m21 5 rfl) rfl
theorem q5198 : (Jvm.Cond.code ({ cls := "WasteHouse$TicketChain$Sum", name := "take", desc := "(I)V" } : Jvm.MethodName) prog_51_method_3_code (3 : Nat) (Option.none : Option Jvm.ClassFile.FieldType)) ∈ lw_all := lw_g (lw_at lw_m21 6 rfl) rfl
theorem q5199 : (Jvm.Cond.constantLong "WasteHouse$TicketChain$Sum" (41 : Nat) (63 : Int64)) ∈ lw_all := lw_g (lw_at lw_m21 7 rfl) rfl
theorem q5200 : (Jvm.Cond.methodLink "WasteHouse$TicketChain$Sum" (43 : Nat) ({ cls := "WasteHouse$TicketChain$Sum", name := "fold", desc := "()V" } : Jvm.MethodName)) ∈ lw_all := lw_g (lw_at lw_m21 8 rfl) rfl
theorem q5201 : (Jvm.Cond.privateMethod ({ cls := "WasteHouse$TicketChain$Sum", name := "fold", desc := "()V" } : Jvm.MethodName)) ∈ lw_tbl := lw_at lw_m21 9 rfl
theorem q5202 : (Jvm.Cond.instanceMethod ({ cls := "WasteHouse$TicketChain$Sum", name := "fold", desc := "()V" } : Jvm.MethodName)) ∈ lw_all := lw_g (lw_at lw_m21 10 rfl) rfl
theorem q5203 : (Jvm.Cond.code ({ cls := "WasteHouse$TicketChain$Sum", name := "fold", desc := "()V" } : Jvm.MethodName) prog_51_method_5_code (13 : Nat) (Option.none : Option Jvm.ClassFile.FieldType)) ∈ lw_all := lw_g (lw_at lw_m21 11 rfl) rfl
theorem q5204 : (Jvm.Cond.methodLink "WasteHouse$TicketChain$Sum" (50 : Nat) ({ cls := "java/lang/Integer", name := "rotateRight", desc := "(II)I" } : Jvm.MethodName)) ∈ lw_all := lw_g (lw_at lw_m21 12 rfl) rfl
theorem q5209 : (Jvm.Cond.instanceMethod ({ cls := "WasteHouse$TicketChain$Sum", name := "end", desc := "([BI)V" } : Jvm.MethodName)) ∈ lw_all := lw_g (lw_at lw_m21 17 rfl) rfl
theorem q5210 : (Jvm.Cond.selects "WasteHouse$TicketChain$Sum" ({ cls := "WasteHouse$TicketChain$Sum", name := "end", desc := "([BI)V" } : Jvm.MethodName) ({ cls := "WasteHouse$TicketChain$Sum", name := "end", desc := "([BI)V" } : Jvm.MethodName)) ∈ lw_all := lw_g (lw_at lw_m21 18 rfl) rfl
theorem q5211 : (Jvm.Cond.code ({ cls := "WasteHouse$TicketChain$Sum", name := "end", desc := "([BI)V" } : Jvm.MethodName) prog_51_method_6_code (6 : Nat) (Option.none : Option Jvm.ClassFile.FieldType)) ∈ lw_all := lw_g (lw_at lw_m21 19 rfl) rfl
theorem q5212 : (Jvm.Cond.constantLong "WasteHouse$TicketChain$Sum" (59 : Nat) (8 : Int64)) ∈ lw_all := lw_g (lw_at lw_m21 20 rfl) rfl
theorem q5213 : (Jvm.Cond.constantLong "WasteHouse$TicketChain$Sum" (61 : Nat) (56 : Int64)) ∈ lw_all := lw_g (lw_at lw_m21 21 rfl) rfl
theorem q9633 : (Jvm.Cond.castable "WasteHouse$TicketChain$Sum" "java/lang/Object") ∈ lw_tbl := lw_at lw_m39 121 rfl
theorem in_X4 : ∀ w ∈ wsX40, w ∈ lw_all := lw_in wsX40 [567, 569, 571, 573, 575] (by decide +kernel) (by decide +kernel)
