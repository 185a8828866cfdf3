/-! WasteHouse$TicketChain -/
set_option maxRecDepth 100000
def RX2 : String := "WasteHouse$TicketChain"
def TX2 : u_T := fun k => match k with
  | 0 => ("WasteHouse$TicketChain", "chain", "LWasteHouse$TicketChain$Chain;", true)
  | 1 => ("WasteHouse$TicketChain", "tickets", "Ljava/util/ArrayList;", true)
  | 2 => ("WasteHouse$TicketChain", "gaps", "Ljava/util/ArrayList;", true)
  | 3 => ("WasteHouse$TicketChain", "tares", "Ljava/util/TreeMap;", true)
  | 4 => ("WasteHouse$TicketChain", "used", "I", false)
  | 5 => ("WasteHouse$TicketChain", "form", "Ljava/lang/String;", false)
  | _ => ("WasteHouse$TicketChain", "formOf", "I", false)
def tyX2 : Nat → FieldType := fun k => match k with
  | 0 => .object "WasteHouse$TicketChain$Chain"
  | 1 => .object "java/util/ArrayList"
  | 2 => .object "java/util/ArrayList"
  | 3 => .object "java/util/TreeMap"
  | 4 => .int
  | 5 => .object "java/lang/String"
  | _ => .int
abbrev wsX20 : List Cond := u_ws RX2 TX2 7
theorem nmX2 : ∀ a, a < 7 → ∀ b, b < 7 → a ≠ b → (TX2 a).2.1 ≠ (TX2 b).2.1 := by decide +kernel
theorem tyX2_ok : ∀ k, k < 7 → parseFieldDescriptor (TX2 k).2.2.1 = some (tyX2 k) := by decide +kernel
abbrev cX2_init : ByteArray := prog_48_method_1_code
def yX2_init : MethodName := ⟨RX2, "<init>", "()V"⟩
def dkwX2_init_2 : List UInt8 := [181, 0, 29, 42, 18, 33, 181, 0, 35, 42, 2, 181, 0, 39, 177]
abbrev dktX2_init_2 : List UInt8 := dkwX2_init_2 ++ []
def dkwX2_init_1 : List UInt8 := [181, 0, 19, 42, 187, 0, 16, 89, 183, 0, 18, 181, 0, 23, 42, 187, 0, 26, 89, 183, 0, 28]
abbrev dktX2_init_1 : List UInt8 := dkwX2_init_1 ++ dktX2_init_2
def dkwX2_init_0 : List UInt8 := [42, 183, 0, 1, 42, 187, 0, 7, 89, 183, 0, 9, 181, 0, 10, 42, 187, 0, 16, 89, 183, 0, 18]
abbrev dktX2_init_0 : List UInt8 := dkwX2_init_0 ++ dktX2_init_1
theorem dksX2_init_0 : cX2_init.data.toList.drop 0 = dktX2_init_0 := by decide +kernel
theorem dksX2_init_1 : cX2_init.data.toList.drop 23 = dktX2_init_1 := dk_seg dksX2_init_0 23 rfl rfl
theorem dksX2_init_2 : cX2_init.data.toList.drop 45 = dktX2_init_2 := dk_seg dksX2_init_1 22 rfl rfl
theorem dX2_init_0 : decode cX2_init 0 = .ok (.aload_n 0, 1) := dk_42 (dk_at dksX2_init_0 0 rfl rfl)
theorem dX2_init_1 : decode cX2_init 1 = .ok (.invokespecial 1, 3) := dk_183 0 1 (dk_at dksX2_init_0 1 rfl rfl)
theorem dX2_init_4 : decode cX2_init 4 = .ok (.aload_n 0, 1) := dk_42 (dk_at dksX2_init_0 4 rfl rfl)
theorem dX2_init_5 : decode cX2_init 5 = .ok (.new 7, 3) := dk_187 0 7 (dk_at dksX2_init_0 5 rfl rfl)
theorem dX2_init_8 : decode cX2_init 8 = .ok (.dup, 1) := dk_89 (dk_at dksX2_init_0 8 rfl rfl)
theorem dX2_init_9 : decode cX2_init 9 = .ok (.invokespecial 9, 3) := dk_183 0 9 (dk_at dksX2_init_0 9 rfl rfl)
theorem dX2_init_12 : decode cX2_init 12 = .ok (.putfield 10, 3) := dk_181 0 10 (dk_at dksX2_init_0 12 rfl rfl)
theorem dX2_init_15 : decode cX2_init 15 = .ok (.aload_n 0, 1) := dk_42 (dk_at dksX2_init_0 15 rfl rfl)
theorem dX2_init_16 : decode cX2_init 16 = .ok (.new 16, 3) := dk_187 0 16 (dk_at dksX2_init_0 16 rfl rfl)
theorem dX2_init_19 : decode cX2_init 19 = .ok (.dup, 1) := dk_89 (dk_at dksX2_init_0 19 rfl rfl)
theorem dX2_init_20 : decode cX2_init 20 = .ok (.invokespecial 18, 3) := dk_183 0 18 (dk_at dksX2_init_0 20 rfl rfl)
theorem dX2_init_23 : decode cX2_init 23 = .ok (.putfield 19, 3) := dk_181 0 19 (dk_at dksX2_init_1 0 rfl rfl)
theorem dX2_init_26 : decode cX2_init 26 = .ok (.aload_n 0, 1) := dk_42 (dk_at dksX2_init_1 3 rfl rfl)
theorem dX2_init_27 : decode cX2_init 27 = .ok (.new 16, 3) := dk_187 0 16 (dk_at dksX2_init_1 4 rfl rfl)
theorem dX2_init_30 : decode cX2_init 30 = .ok (.dup, 1) := dk_89 (dk_at dksX2_init_1 7 rfl rfl)
theorem dX2_init_31 : decode cX2_init 31 = .ok (.invokespecial 18, 3) := dk_183 0 18 (dk_at dksX2_init_1 8 rfl rfl)
theorem dX2_init_34 : decode cX2_init 34 = .ok (.putfield 23, 3) := dk_181 0 23 (dk_at dksX2_init_1 11 rfl rfl)
theorem dX2_init_37 : decode cX2_init 37 = .ok (.aload_n 0, 1) := dk_42 (dk_at dksX2_init_1 14 rfl rfl)
theorem dX2_init_38 : decode cX2_init 38 = .ok (.new 26, 3) := dk_187 0 26 (dk_at dksX2_init_1 15 rfl rfl)
theorem dX2_init_41 : decode cX2_init 41 = .ok (.dup, 1) := dk_89 (dk_at dksX2_init_1 18 rfl rfl)
theorem dX2_init_42 : decode cX2_init 42 = .ok (.invokespecial 28, 3) := dk_183 0 28 (dk_at dksX2_init_1 19 rfl rfl)
theorem dX2_init_45 : decode cX2_init 45 = .ok (.putfield 29, 3) := dk_181 0 29 (dk_at dksX2_init_2 0 rfl rfl)
theorem dX2_init_48 : decode cX2_init 48 = .ok (.aload_n 0, 1) := dk_42 (dk_at dksX2_init_2 3 rfl rfl)
theorem dX2_init_49 : decode cX2_init 49 = .ok (.ldc 33, 2) := dk_18 33 (dk_at dksX2_init_2 4 rfl rfl)
theorem dX2_init_51 : decode cX2_init 51 = .ok (.putfield 35, 3) := dk_181 0 35 (dk_at dksX2_init_2 6 rfl rfl)
theorem dX2_init_54 : decode cX2_init 54 = .ok (.aload_n 0, 1) := dk_42 (dk_at dksX2_init_2 9 rfl rfl)
theorem dX2_init_55 : decode cX2_init 55 = .ok (.iconst (-1), 1) := dk_2 (dk_at dksX2_init_2 10 rfl rfl)
theorem dX2_init_56 : decode cX2_init 56 = .ok (.putfield 39, 3) := dk_181 0 39 (dk_at dksX2_init_2 11 rfl rfl)
theorem dX2_init_59 : decode cX2_init 59 = .ok (.return_, 1) := dk_177 (dk_at dksX2_init_2 14 rfl rfl)
abbrev cX2_tareOf : ByteArray := prog_48_method_4_code
def yX2_tareOf : MethodName := ⟨RX2, "tareOf", "(II)J"⟩
def dkwX2_tareOf_2 : List UInt8 := [185, 0, 79, 1, 0, 192, 0, 69, 182, 0, 85, 173]
abbrev dktX2_tareOf_2 : List UInt8 := dkwX2_tareOf_2 ++ []
def dkwX2_tareOf_1 : List UInt8 := [28, 184, 0, 54, 182, 0, 73, 58, 4, 25, 4, 199, 0, 9, 20, 0, 77, 167, 0, 16, 25, 4]
abbrev dktX2_tareOf_1 : List UInt8 := dkwX2_tareOf_1 ++ dktX2_tareOf_2
def dkwX2_tareOf_0 : List UInt8 := [42, 180, 0, 29, 27, 184, 0, 54, 182, 0, 60, 192, 0, 26, 78, 45, 199, 0, 7, 1, 167, 0, 11, 45]
abbrev dktX2_tareOf_0 : List UInt8 := dkwX2_tareOf_0 ++ dktX2_tareOf_1
theorem dksX2_tareOf_0 : cX2_tareOf.data.toList.drop 0 = dktX2_tareOf_0 := by decide +kernel
theorem dksX2_tareOf_1 : cX2_tareOf.data.toList.drop 24 = dktX2_tareOf_1 := dk_seg dksX2_tareOf_0 24 rfl rfl
theorem dksX2_tareOf_2 : cX2_tareOf.data.toList.drop 46 = dktX2_tareOf_2 := dk_seg dksX2_tareOf_1 22 rfl rfl
theorem dX2_tareOf_0 : decode cX2_tareOf 0 = .ok (.aload_n 0, 1) := dk_42 (dk_at dksX2_tareOf_0 0 rfl rfl)
theorem dX2_tareOf_1 : decode cX2_tareOf 1 = .ok (.getfield 29, 3) := dk_180 0 29 (dk_at dksX2_tareOf_0 1 rfl rfl)
theorem dX2_tareOf_4 : decode cX2_tareOf 4 = .ok (.iload_n 1, 1) := dk_27 (dk_at dksX2_tareOf_0 4 rfl rfl)
theorem dX2_tareOf_5 : decode cX2_tareOf 5 = .ok (.invokestatic 54, 3) := dk_184 0 54 (dk_at dksX2_tareOf_0 5 rfl rfl)
theorem dX2_tareOf_8 : decode cX2_tareOf 8 = .ok (.invokevirtual 60, 3) := dk_182 0 60 (dk_at dksX2_tareOf_0 8 rfl rfl)
theorem dX2_tareOf_11 : decode cX2_tareOf 11 = .ok (.checkcast 26, 3) := dk_192 0 26 (dk_at dksX2_tareOf_0 11 rfl rfl)
theorem dX2_tareOf_14 : decode cX2_tareOf 14 = .ok (.astore_n 3, 1) := dk_78 (dk_at dksX2_tareOf_0 14 rfl rfl)
theorem dX2_tareOf_15 : decode cX2_tareOf 15 = .ok (.aload_n 3, 1) := dk_45 (dk_at dksX2_tareOf_0 15 rfl rfl)
theorem dX2_tareOf_16 : decode cX2_tareOf 16 = .ok (.ifnonnull 7, 3) := dk_199 0 7 (dk_at dksX2_tareOf_0 16 rfl rfl)
theorem dX2_tareOf_19 : decode cX2_tareOf 19 = .ok (.aconst_null, 1) := dk_1 (dk_at dksX2_tareOf_0 19 rfl rfl)
theorem dX2_tareOf_20 : decode cX2_tareOf 20 = .ok (.goto 11, 3) := dk_167 0 11 (dk_at dksX2_tareOf_0 20 rfl rfl)
theorem dX2_tareOf_23 : decode cX2_tareOf 23 = .ok (.aload_n 3, 1) := dk_45 (dk_at dksX2_tareOf_0 23 rfl rfl)
theorem dX2_tareOf_24 : decode cX2_tareOf 24 = .ok (.iload_n 2, 1) := dk_28 (dk_at dksX2_tareOf_1 0 rfl rfl)
theorem dX2_tareOf_25 : decode cX2_tareOf 25 = .ok (.invokestatic 54, 3) := dk_184 0 54 (dk_at dksX2_tareOf_1 1 rfl rfl)
theorem dX2_tareOf_28 : decode cX2_tareOf 28 = .ok (.invokevirtual 73, 3) := dk_182 0 73 (dk_at dksX2_tareOf_1 4 rfl rfl)
theorem dX2_tareOf_31 : decode cX2_tareOf 31 = .ok (.astore 4, 2) := dk_58 4 (dk_at dksX2_tareOf_1 7 rfl rfl)
theorem dX2_tareOf_33 : decode cX2_tareOf 33 = .ok (.aload 4, 2) := dk_25 4 (dk_at dksX2_tareOf_1 9 rfl rfl)
theorem dX2_tareOf_35 : decode cX2_tareOf 35 = .ok (.ifnonnull 9, 3) := dk_199 0 9 (dk_at dksX2_tareOf_1 11 rfl rfl)
theorem dX2_tareOf_38 : decode cX2_tareOf 38 = .ok (.ldc2_w 77, 3) := dk_20 0 77 (dk_at dksX2_tareOf_1 14 rfl rfl)
theorem dX2_tareOf_41 : decode cX2_tareOf 41 = .ok (.goto 16, 3) := dk_167 0 16 (dk_at dksX2_tareOf_1 17 rfl rfl)
theorem dX2_tareOf_44 : decode cX2_tareOf 44 = .ok (.aload 4, 2) := dk_25 4 (dk_at dksX2_tareOf_1 20 rfl rfl)
theorem dX2_tareOf_46 : decode cX2_tareOf 46 = .ok (.invokeinterface 79 1, 5) := by decide +kernel
theorem dX2_tareOf_51 : decode cX2_tareOf 51 = .ok (.checkcast 69, 3) := dk_192 0 69 (dk_at dksX2_tareOf_2 5 rfl rfl)
theorem dX2_tareOf_54 : decode cX2_tareOf 54 = .ok (.invokevirtual 85, 3) := dk_182 0 85 (dk_at dksX2_tareOf_2 8 rfl rfl)
theorem dX2_tareOf_57 : decode cX2_tareOf 57 = .ok (.lreturn, 1) := dk_173 (dk_at dksX2_tareOf_2 11 rfl rfl)
abbrev cX2_ticket : ByteArray := prog_48_method_5_code
def yX2_ticket : MethodName := ⟨RX2, "ticket", "(IIJJJI)I"⟩
def dkwX2_ticket_11 : List UInt8 := [182, 0, 113, 87, 42, 180, 0, 19, 182, 0, 43, 4, 100, 172]
abbrev dktX2_ticket_11 : List UInt8 := dkwX2_ticket_11 ++ []
def dkwX2_ticket_10 : List UInt8 := [16, 7, 21, 9, 133, 182, 0, 109, 42, 180, 0, 19, 25, 13, 182, 0, 102, 87, 42, 180, 0, 10, 25, 13]
abbrev dktX2_ticket_10 : List UInt8 := dkwX2_ticket_10 ++ dktX2_ticket_11
def dkwX2_ticket_9 : List UInt8 := [33, 182, 0, 109, 25, 13, 7, 22, 11, 182, 0, 109, 25, 13, 16, 6, 22, 7, 182, 0, 109, 25, 13]
abbrev dktX2_ticket_9 : List UInt8 := dkwX2_ticket_9 ++ dktX2_ticket_10
def dkwX2_ticket_8 : List UInt8 := [183, 0, 106, 58, 13, 25, 13, 4, 27, 133, 182, 0, 109, 25, 13, 5, 28, 133, 182, 0, 109, 25, 13, 6]
abbrev dktX2_ticket_8 : List UInt8 := dkwX2_ticket_8 ++ dktX2_ticket_9
def dkwX2_ticket_7 : List UInt8 := [182, 0, 102, 87, 16, 254, 172, 187, 0, 48, 89, 42, 89, 180, 0, 93, 90, 4, 96, 181, 0, 93]
abbrev dktX2_ticket_7 : List UInt8 := dkwX2_ticket_7 ++ dktX2_ticket_8
def dkwX2_ticket_6 : List UInt8 := [148, 156, 0, 28, 42, 180, 0, 23, 42, 89, 180, 0, 93, 90, 4, 96, 181, 0, 93, 184, 0, 54]
abbrev dktX2_ticket_6 : List UInt8 := dkwX2_ticket_6 ++ dktX2_ticket_7
def dkwX2_ticket_5 : List UInt8 := [182, 0, 98, 167, 0, 5, 22, 5, 55, 11, 22, 11, 20, 0, 77, 148, 154, 0, 5, 2, 172, 33, 22, 11]
abbrev dktX2_ticket_5 : List UInt8 := dkwX2_ticket_5 ++ dktX2_ticket_6
def dkwX2_ticket_4 : List UInt8 := [160, 0, 5, 2, 172, 22, 5, 20, 0, 77, 148, 154, 0, 18, 42, 27, 22, 7, 20, 0, 96, 109, 136]
abbrev dktX2_ticket_4 : List UInt8 := dkwX2_ticket_4 ++ dktX2_ticket_5
def dkwX2_ticket_3 : List UInt8 := [54, 10, 21, 10, 153, 0, 23, 42, 180, 0, 10, 182, 0, 89, 154, 0, 13, 42, 180, 0, 93, 17, 1, 144]
abbrev dktX2_ticket_3 : List UInt8 := dkwX2_ticket_3 ++ dktX2_ticket_4
def dkwX2_ticket_2 : List UInt8 := [22, 7, 184, 0, 50, 153, 0, 18, 16, 7, 21, 9, 133, 184, 0, 50, 153, 0, 7, 4, 167, 0, 4, 3]
abbrev dktX2_ticket_2 : List UInt8 := dkwX2_ticket_2 ++ dktX2_ticket_3
def dkwX2_ticket_1 : List UInt8 := [153, 0, 46, 22, 5, 20, 0, 77, 148, 153, 0, 12, 7, 22, 5, 184, 0, 50, 153, 0, 28, 16, 6]
abbrev dktX2_ticket_1 : List UInt8 := dkwX2_ticket_1 ++ dktX2_ticket_2
def dkwX2_ticket_0 : List UInt8 := [4, 27, 133, 184, 0, 50, 153, 0, 63, 5, 28, 133, 184, 0, 50, 153, 0, 54, 6, 33, 184, 0, 50]
abbrev dktX2_ticket_0 : List UInt8 := dkwX2_ticket_0 ++ dktX2_ticket_1
theorem dksX2_ticket_0 : cX2_ticket.data.toList.drop 0 = dktX2_ticket_0 := by decide +kernel
theorem dksX2_ticket_1 : cX2_ticket.data.toList.drop 23 = dktX2_ticket_1 := dk_seg dksX2_ticket_0 23 rfl rfl
theorem dksX2_ticket_2 : cX2_ticket.data.toList.drop 46 = dktX2_ticket_2 := dk_seg dksX2_ticket_1 23 rfl rfl
theorem dksX2_ticket_3 : cX2_ticket.data.toList.drop 70 = dktX2_ticket_3 := dk_seg dksX2_ticket_2 24 rfl rfl
theorem dksX2_ticket_4 : cX2_ticket.data.toList.drop 94 = dktX2_ticket_4 := dk_seg dksX2_ticket_3 24 rfl rfl
theorem dksX2_ticket_5 : cX2_ticket.data.toList.drop 117 = dktX2_ticket_5 := dk_seg dksX2_ticket_4 23 rfl rfl
theorem dksX2_ticket_6 : cX2_ticket.data.toList.drop 141 = dktX2_ticket_6 := dk_seg dksX2_ticket_5 24 rfl rfl
theorem dksX2_ticket_7 : cX2_ticket.data.toList.drop 163 = dktX2_ticket_7 := dk_seg dksX2_ticket_6 22 rfl rfl
theorem dksX2_ticket_8 : cX2_ticket.data.toList.drop 185 = dktX2_ticket_8 := dk_seg dksX2_ticket_7 22 rfl rfl
theorem dksX2_ticket_9 : cX2_ticket.data.toList.drop 209 = dktX2_ticket_9 := dk_seg dksX2_ticket_8 24 rfl rfl
theorem dksX2_ticket_10 : cX2_ticket.data.toList.drop 232 = dktX2_ticket_10 := dk_seg dksX2_ticket_9 23 rfl rfl
theorem dksX2_ticket_11 : cX2_ticket.data.toList.drop 256 = dktX2_ticket_11 := dk_seg dksX2_ticket_10 24 rfl rfl
theorem dX2_ticket_0 : decode cX2_ticket 0 = .ok (.iconst 1, 1) := dk_4 (dk_at dksX2_ticket_0 0 rfl rfl)
theorem dX2_ticket_1 : decode cX2_ticket 1 = .ok (.iload_n 1, 1) := dk_27 (dk_at dksX2_ticket_0 1 rfl rfl)
theorem dX2_ticket_2 : decode cX2_ticket 2 = .ok (.i2l, 1) := dk_133 (dk_at dksX2_ticket_0 2 rfl rfl)
theorem dX2_ticket_3 : decode cX2_ticket 3 = .ok (.invokestatic 50, 3) := dk_184 0 50 (dk_at dksX2_ticket_0 3 rfl rfl)
theorem dX2_ticket_6 : decode cX2_ticket 6 = .ok (.ifCond .eq 63, 3) := dk_153 0 63 (dk_at dksX2_ticket_0 6 rfl rfl)
theorem dX2_ticket_9 : decode cX2_ticket 9 = .ok (.iconst 2, 1) := dk_5 (dk_at dksX2_ticket_0 9 rfl rfl)
theorem dX2_ticket_10 : decode cX2_ticket 10 = .ok (.iload_n 2, 1) := dk_28 (dk_at dksX2_ticket_0 10 rfl rfl)
theorem dX2_ticket_11 : decode cX2_ticket 11 = .ok (.i2l, 1) := dk_133 (dk_at dksX2_ticket_0 11 rfl rfl)
theorem dX2_ticket_12 : decode cX2_ticket 12 = .ok (.invokestatic 50, 3) := dk_184 0 50 (dk_at dksX2_ticket_0 12 rfl rfl)
theorem dX2_ticket_15 : decode cX2_ticket 15 = .ok (.ifCond .eq 54, 3) := dk_153 0 54 (dk_at dksX2_ticket_0 15 rfl rfl)
theorem dX2_ticket_18 : decode cX2_ticket 18 = .ok (.iconst 3, 1) := dk_6 (dk_at dksX2_ticket_0 18 rfl rfl)
theorem dX2_ticket_19 : decode cX2_ticket 19 = .ok (.lload_n 3, 1) := dk_33 (dk_at dksX2_ticket_0 19 rfl rfl)
theorem dX2_ticket_20 : decode cX2_ticket 20 = .ok (.invokestatic 50, 3) := dk_184 0 50 (dk_at dksX2_ticket_0 20 rfl rfl)
theorem dX2_ticket_23 : decode cX2_ticket 23 = .ok (.ifCond .eq 46, 3) := dk_153 0 46 (dk_at dksX2_ticket_1 0 rfl rfl)
theorem dX2_ticket_26 : decode cX2_ticket 26 = .ok (.lload 5, 2) := dk_22 5 (dk_at dksX2_ticket_1 3 rfl rfl)
theorem dX2_ticket_28 : decode cX2_ticket 28 = .ok (.ldc2_w 77, 3) := dk_20 0 77 (dk_at dksX2_ticket_1 5 rfl rfl)
theorem dX2_ticket_31 : decode cX2_ticket 31 = .ok (.lcmp, 1) := dk_148 (dk_at dksX2_ticket_1 8 rfl rfl)
theorem dX2_ticket_32 : decode cX2_ticket 32 = .ok (.ifCond .eq 12, 3) := dk_153 0 12 (dk_at dksX2_ticket_1 9 rfl rfl)
theorem dX2_ticket_35 : decode cX2_ticket 35 = .ok (.iconst 4, 1) := dk_7 (dk_at dksX2_ticket_1 12 rfl rfl)
theorem dX2_ticket_36 : decode cX2_ticket 36 = .ok (.lload 5, 2) := dk_22 5 (dk_at dksX2_ticket_1 13 rfl rfl)
theorem dX2_ticket_38 : decode cX2_ticket 38 = .ok (.invokestatic 50, 3) := dk_184 0 50 (dk_at dksX2_ticket_1 15 rfl rfl)
theorem dX2_ticket_41 : decode cX2_ticket 41 = .ok (.ifCond .eq 28, 3) := dk_153 0 28 (dk_at dksX2_ticket_1 18 rfl rfl)
theorem dX2_ticket_44 : decode cX2_ticket 44 = .ok (.bipush 6, 2) := dk_16 6 (dk_at dksX2_ticket_1 21 rfl rfl)
theorem dX2_ticket_46 : decode cX2_ticket 46 = .ok (.lload 7, 2) := dk_22 7 (dk_at dksX2_ticket_2 0 rfl rfl)
theorem dX2_ticket_48 : decode cX2_ticket 48 = .ok (.invokestatic 50, 3) := dk_184 0 50 (dk_at dksX2_ticket_2 2 rfl rfl)
theorem dX2_ticket_51 : decode cX2_ticket 51 = .ok (.ifCond .eq 18, 3) := dk_153 0 18 (dk_at dksX2_ticket_2 5 rfl rfl)
theorem dX2_ticket_54 : decode cX2_ticket 54 = .ok (.bipush 7, 2) := dk_16 7 (dk_at dksX2_ticket_2 8 rfl rfl)
theorem dX2_ticket_56 : decode cX2_ticket 56 = .ok (.iload 9, 2) := dk_21 9 (dk_at dksX2_ticket_2 10 rfl rfl)
theorem dX2_ticket_58 : decode cX2_ticket 58 = .ok (.i2l, 1) := dk_133 (dk_at dksX2_ticket_2 12 rfl rfl)
theorem dX2_ticket_59 : decode cX2_ticket 59 = .ok (.invokestatic 50, 3) := dk_184 0 50 (dk_at dksX2_ticket_2 13 rfl rfl)
theorem dX2_ticket_62 : decode cX2_ticket 62 = .ok (.ifCond .eq 7, 3) := dk_153 0 7 (dk_at dksX2_ticket_2 16 rfl rfl)
theorem dX2_ticket_65 : decode cX2_ticket 65 = .ok (.iconst 1, 1) := dk_4 (dk_at dksX2_ticket_2 19 rfl rfl)
theorem dX2_ticket_66 : decode cX2_ticket 66 = .ok (.goto 4, 3) := dk_167 0 4 (dk_at dksX2_ticket_2 20 rfl rfl)
theorem dX2_ticket_69 : decode cX2_ticket 69 = .ok (.iconst 0, 1) := dk_3 (dk_at dksX2_ticket_2 23 rfl rfl)
theorem dX2_ticket_70 : decode cX2_ticket 70 = .ok (.istore 10, 2) := dk_54 10 (dk_at dksX2_ticket_3 0 rfl rfl)
theorem dX2_ticket_72 : decode cX2_ticket 72 = .ok (.iload 10, 2) := dk_21 10 (dk_at dksX2_ticket_3 2 rfl rfl)
theorem dX2_ticket_74 : decode cX2_ticket 74 = .ok (.ifCond .eq 23, 3) := dk_153 0 23 (dk_at dksX2_ticket_3 4 rfl rfl)
theorem dX2_ticket_77 : decode cX2_ticket 77 = .ok (.aload_n 0, 1) := dk_42 (dk_at dksX2_ticket_3 7 rfl rfl)
theorem dX2_ticket_78 : decode cX2_ticket 78 = .ok (.getfield 10, 3) := dk_180 0 10 (dk_at dksX2_ticket_3 8 rfl rfl)
theorem dX2_ticket_81 : decode cX2_ticket 81 = .ok (.invokevirtual 89, 3) := dk_182 0 89 (dk_at dksX2_ticket_3 11 rfl rfl)
theorem dX2_ticket_84 : decode cX2_ticket 84 = .ok (.ifCond .ne 13, 3) := dk_154 0 13 (dk_at dksX2_ticket_3 14 rfl rfl)
theorem dX2_ticket_87 : decode cX2_ticket 87 = .ok (.aload_n 0, 1) := dk_42 (dk_at dksX2_ticket_3 17 rfl rfl)
theorem dX2_ticket_88 : decode cX2_ticket 88 = .ok (.getfield 93, 3) := dk_180 0 93 (dk_at dksX2_ticket_3 18 rfl rfl)
theorem dX2_ticket_91 : decode cX2_ticket 91 = .ok (.sipush 400, 3) := dk_17 1 144 (dk_at dksX2_ticket_3 21 rfl rfl)
theorem dX2_ticket_94 : decode cX2_ticket 94 = .ok (.if_icmp .ne 5, 3) := dk_160 0 5 (dk_at dksX2_ticket_4 0 rfl rfl)
theorem dX2_ticket_97 : decode cX2_ticket 97 = .ok (.iconst (-1), 1) := dk_2 (dk_at dksX2_ticket_4 3 rfl rfl)
theorem dX2_ticket_98 : decode cX2_ticket 98 = .ok (.ireturn, 1) := dk_172 (dk_at dksX2_ticket_4 4 rfl rfl)
theorem dX2_ticket_99 : decode cX2_ticket 99 = .ok (.lload 5, 2) := dk_22 5 (dk_at dksX2_ticket_4 5 rfl rfl)
theorem dX2_ticket_101 : decode cX2_ticket 101 = .ok (.ldc2_w 77, 3) := dk_20 0 77 (dk_at dksX2_ticket_4 7 rfl rfl)
theorem dX2_ticket_104 : decode cX2_ticket 104 = .ok (.lcmp, 1) := dk_148 (dk_at dksX2_ticket_4 10 rfl rfl)
theorem dX2_ticket_105 : decode cX2_ticket 105 = .ok (.ifCond .ne 18, 3) := dk_154 0 18 (dk_at dksX2_ticket_4 11 rfl rfl)
theorem dX2_ticket_108 : decode cX2_ticket 108 = .ok (.aload_n 0, 1) := dk_42 (dk_at dksX2_ticket_4 14 rfl rfl)
theorem dX2_ticket_109 : decode cX2_ticket 109 = .ok (.iload_n 1, 1) := dk_27 (dk_at dksX2_ticket_4 15 rfl rfl)
theorem dX2_ticket_110 : decode cX2_ticket 110 = .ok (.lload 7, 2) := dk_22 7 (dk_at dksX2_ticket_4 16 rfl rfl)
theorem dX2_ticket_112 : decode cX2_ticket 112 = .ok (.ldc2_w 96, 3) := dk_20 0 96 (dk_at dksX2_ticket_4 18 rfl rfl)
theorem dX2_ticket_115 : decode cX2_ticket 115 = .ok (.ldiv, 1) := dk_109 (dk_at dksX2_ticket_4 21 rfl rfl)
theorem dX2_ticket_116 : decode cX2_ticket 116 = .ok (.l2i, 1) := dk_136 (dk_at dksX2_ticket_4 22 rfl rfl)
theorem dX2_ticket_117 : decode cX2_ticket 117 = .ok (.invokevirtual 98, 3) := dk_182 0 98 (dk_at dksX2_ticket_5 0 rfl rfl)
theorem dX2_ticket_120 : decode cX2_ticket 120 = .ok (.goto 5, 3) := dk_167 0 5 (dk_at dksX2_ticket_5 3 rfl rfl)
theorem dX2_ticket_123 : decode cX2_ticket 123 = .ok (.lload 5, 2) := dk_22 5 (dk_at dksX2_ticket_5 6 rfl rfl)
theorem dX2_ticket_125 : decode cX2_ticket 125 = .ok (.lstore 11, 2) := dk_55 11 (dk_at dksX2_ticket_5 8 rfl rfl)
theorem dX2_ticket_127 : decode cX2_ticket 127 = .ok (.lload 11, 2) := dk_22 11 (dk_at dksX2_ticket_5 10 rfl rfl)
theorem dX2_ticket_129 : decode cX2_ticket 129 = .ok (.ldc2_w 77, 3) := dk_20 0 77 (dk_at dksX2_ticket_5 12 rfl rfl)
theorem dX2_ticket_132 : decode cX2_ticket 132 = .ok (.lcmp, 1) := dk_148 (dk_at dksX2_ticket_5 15 rfl rfl)
theorem dX2_ticket_133 : decode cX2_ticket 133 = .ok (.ifCond .ne 5, 3) := dk_154 0 5 (dk_at dksX2_ticket_5 16 rfl rfl)
theorem dX2_ticket_136 : decode cX2_ticket 136 = .ok (.iconst (-1), 1) := dk_2 (dk_at dksX2_ticket_5 19 rfl rfl)
theorem dX2_ticket_137 : decode cX2_ticket 137 = .ok (.ireturn, 1) := dk_172 (dk_at dksX2_ticket_5 20 rfl rfl)
theorem dX2_ticket_138 : decode cX2_ticket 138 = .ok (.lload_n 3, 1) := dk_33 (dk_at dksX2_ticket_5 21 rfl rfl)
theorem dX2_ticket_139 : decode cX2_ticket 139 = .ok (.lload 11, 2) := dk_22 11 (dk_at dksX2_ticket_5 22 rfl rfl)
theorem dX2_ticket_141 : decode cX2_ticket 141 = .ok (.lcmp, 1) := dk_148 (dk_at dksX2_ticket_6 0 rfl rfl)
theorem dX2_ticket_142 : decode cX2_ticket 142 = .ok (.ifCond .ge 28, 3) := dk_156 0 28 (dk_at dksX2_ticket_6 1 rfl rfl)
theorem dX2_ticket_145 : decode cX2_ticket 145 = .ok (.aload_n 0, 1) := dk_42 (dk_at dksX2_ticket_6 4 rfl rfl)
theorem dX2_ticket_146 : decode cX2_ticket 146 = .ok (.getfield 23, 3) := dk_180 0 23 (dk_at dksX2_ticket_6 5 rfl rfl)
theorem dX2_ticket_149 : decode cX2_ticket 149 = .ok (.aload_n 0, 1) := dk_42 (dk_at dksX2_ticket_6 8 rfl rfl)
theorem dX2_ticket_150 : decode cX2_ticket 150 = .ok (.dup, 1) := dk_89 (dk_at dksX2_ticket_6 9 rfl rfl)
theorem dX2_ticket_151 : decode cX2_ticket 151 = .ok (.getfield 93, 3) := dk_180 0 93 (dk_at dksX2_ticket_6 10 rfl rfl)
theorem dX2_ticket_154 : decode cX2_ticket 154 = .ok (.dup_x1, 1) := dk_90 (dk_at dksX2_ticket_6 13 rfl rfl)
theorem dX2_ticket_155 : decode cX2_ticket 155 = .ok (.iconst 1, 1) := dk_4 (dk_at dksX2_ticket_6 14 rfl rfl)
theorem dX2_ticket_156 : decode cX2_ticket 156 = .ok (.iadd, 1) := dk_96 (dk_at dksX2_ticket_6 15 rfl rfl)
theorem dX2_ticket_157 : decode cX2_ticket 157 = .ok (.putfield 93, 3) := dk_181 0 93 (dk_at dksX2_ticket_6 16 rfl rfl)
theorem dX2_ticket_160 : decode cX2_ticket 160 = .ok (.invokestatic 54, 3) := dk_184 0 54 (dk_at dksX2_ticket_6 19 rfl rfl)
theorem dX2_ticket_163 : decode cX2_ticket 163 = .ok (.invokevirtual 102, 3) := dk_182 0 102 (dk_at dksX2_ticket_7 0 rfl rfl)
theorem dX2_ticket_166 : decode cX2_ticket 166 = .ok (.pop, 1) := dk_87 (dk_at dksX2_ticket_7 3 rfl rfl)
theorem dX2_ticket_167 : decode cX2_ticket 167 = .ok (.bipush (-2), 2) := dk_16 254 (dk_at dksX2_ticket_7 4 rfl rfl)
theorem dX2_ticket_169 : decode cX2_ticket 169 = .ok (.ireturn, 1) := dk_172 (dk_at dksX2_ticket_7 6 rfl rfl)
theorem dX2_ticket_170 : decode cX2_ticket 170 = .ok (.new 48, 3) := dk_187 0 48 (dk_at dksX2_ticket_7 7 rfl rfl)
theorem dX2_ticket_173 : decode cX2_ticket 173 = .ok (.dup, 1) := dk_89 (dk_at dksX2_ticket_7 10 rfl rfl)
theorem dX2_ticket_174 : decode cX2_ticket 174 = .ok (.aload_n 0, 1) := dk_42 (dk_at dksX2_ticket_7 11 rfl rfl)
theorem dX2_ticket_175 : decode cX2_ticket 175 = .ok (.dup, 1) := dk_89 (dk_at dksX2_ticket_7 12 rfl rfl)
theorem dX2_ticket_176 : decode cX2_ticket 176 = .ok (.getfield 93, 3) := dk_180 0 93 (dk_at dksX2_ticket_7 13 rfl rfl)
theorem dX2_ticket_179 : decode cX2_ticket 179 = .ok (.dup_x1, 1) := dk_90 (dk_at dksX2_ticket_7 16 rfl rfl)
theorem dX2_ticket_180 : decode cX2_ticket 180 = .ok (.iconst 1, 1) := dk_4 (dk_at dksX2_ticket_7 17 rfl rfl)
theorem dX2_ticket_181 : decode cX2_ticket 181 = .ok (.iadd, 1) := dk_96 (dk_at dksX2_ticket_7 18 rfl rfl)
theorem dX2_ticket_182 : decode cX2_ticket 182 = .ok (.putfield 93, 3) := dk_181 0 93 (dk_at dksX2_ticket_7 19 rfl rfl)
theorem dX2_ticket_185 : decode cX2_ticket 185 = .ok (.invokespecial 106, 3) := dk_183 0 106 (dk_at dksX2_ticket_8 0 rfl rfl)
theorem dX2_ticket_188 : decode cX2_ticket 188 = .ok (.astore 13, 2) := dk_58 13 (dk_at dksX2_ticket_8 3 rfl rfl)
theorem dX2_ticket_190 : decode cX2_ticket 190 = .ok (.aload 13, 2) := dk_25 13 (dk_at dksX2_ticket_8 5 rfl rfl)
theorem dX2_ticket_192 : decode cX2_ticket 192 = .ok (.iconst 1, 1) := dk_4 (dk_at dksX2_ticket_8 7 rfl rfl)
theorem dX2_ticket_193 : decode cX2_ticket 193 = .ok (.iload_n 1, 1) := dk_27 (dk_at dksX2_ticket_8 8 rfl rfl)
theorem dX2_ticket_194 : decode cX2_ticket 194 = .ok (.i2l, 1) := dk_133 (dk_at dksX2_ticket_8 9 rfl rfl)
theorem dX2_ticket_195 : decode cX2_ticket 195 = .ok (.invokevirtual 109, 3) := dk_182 0 109 (dk_at dksX2_ticket_8 10 rfl rfl)
theorem dX2_ticket_198 : decode cX2_ticket 198 = .ok (.aload 13, 2) := dk_25 13 (dk_at dksX2_ticket_8 13 rfl rfl)
theorem dX2_ticket_200 : decode cX2_ticket 200 = .ok (.iconst 2, 1) := dk_5 (dk_at dksX2_ticket_8 15 rfl rfl)
theorem dX2_ticket_201 : decode cX2_ticket 201 = .ok (.iload_n 2, 1) := dk_28 (dk_at dksX2_ticket_8 16 rfl rfl)
theorem dX2_ticket_202 : decode cX2_ticket 202 = .ok (.i2l, 1) := dk_133 (dk_at dksX2_ticket_8 17 rfl rfl)
theorem dX2_ticket_203 : decode cX2_ticket 203 = .ok (.invokevirtual 109, 3) := dk_182 0 109 (dk_at dksX2_ticket_8 18 rfl rfl)
theorem dX2_ticket_206 : decode cX2_ticket 206 = .ok (.aload 13, 2) := dk_25 13 (dk_at dksX2_ticket_8 21 rfl rfl)
theorem dX2_ticket_208 : decode cX2_ticket 208 = .ok (.iconst 3, 1) := dk_6 (dk_at dksX2_ticket_8 23 rfl rfl)
theorem dX2_ticket_209 : decode cX2_ticket 209 = .ok (.lload_n 3, 1) := dk_33 (dk_at dksX2_ticket_9 0 rfl rfl)
theorem dX2_ticket_210 : decode cX2_ticket 210 = .ok (.invokevirtual 109, 3) := dk_182 0 109 (dk_at dksX2_ticket_9 1 rfl rfl)
theorem dX2_ticket_213 : decode cX2_ticket 213 = .ok (.aload 13, 2) := dk_25 13 (dk_at dksX2_ticket_9 4 rfl rfl)
theorem dX2_ticket_215 : decode cX2_ticket 215 = .ok (.iconst 4, 1) := dk_7 (dk_at dksX2_ticket_9 6 rfl rfl)
theorem dX2_ticket_216 : decode cX2_ticket 216 = .ok (.lload 11, 2) := dk_22 11 (dk_at dksX2_ticket_9 7 rfl rfl)
theorem dX2_ticket_218 : decode cX2_ticket 218 = .ok (.invokevirtual 109, 3) := dk_182 0 109 (dk_at dksX2_ticket_9 9 rfl rfl)
theorem dX2_ticket_221 : decode cX2_ticket 221 = .ok (.aload 13, 2) := dk_25 13 (dk_at dksX2_ticket_9 12 rfl rfl)
theorem dX2_ticket_223 : decode cX2_ticket 223 = .ok (.bipush 6, 2) := dk_16 6 (dk_at dksX2_ticket_9 14 rfl rfl)
theorem dX2_ticket_225 : decode cX2_ticket 225 = .ok (.lload 7, 2) := dk_22 7 (dk_at dksX2_ticket_9 16 rfl rfl)
theorem dX2_ticket_227 : decode cX2_ticket 227 = .ok (.invokevirtual 109, 3) := dk_182 0 109 (dk_at dksX2_ticket_9 18 rfl rfl)
theorem dX2_ticket_230 : decode cX2_ticket 230 = .ok (.aload 13, 2) := dk_25 13 (dk_at dksX2_ticket_9 21 rfl rfl)
theorem dX2_ticket_232 : decode cX2_ticket 232 = .ok (.bipush 7, 2) := dk_16 7 (dk_at dksX2_ticket_10 0 rfl rfl)
theorem dX2_ticket_234 : decode cX2_ticket 234 = .ok (.iload 9, 2) := dk_21 9 (dk_at dksX2_ticket_10 2 rfl rfl)
theorem dX2_ticket_236 : decode cX2_ticket 236 = .ok (.i2l, 1) := dk_133 (dk_at dksX2_ticket_10 4 rfl rfl)
theorem dX2_ticket_237 : decode cX2_ticket 237 = .ok (.invokevirtual 109, 3) := dk_182 0 109 (dk_at dksX2_ticket_10 5 rfl rfl)
theorem dX2_ticket_240 : decode cX2_ticket 240 = .ok (.aload_n 0, 1) := dk_42 (dk_at dksX2_ticket_10 8 rfl rfl)
theorem dX2_ticket_241 : decode cX2_ticket 241 = .ok (.getfield 19, 3) := dk_180 0 19 (dk_at dksX2_ticket_10 9 rfl rfl)
theorem dX2_ticket_244 : decode cX2_ticket 244 = .ok (.aload 13, 2) := dk_25 13 (dk_at dksX2_ticket_10 12 rfl rfl)
theorem dX2_ticket_246 : decode cX2_ticket 246 = .ok (.invokevirtual 102, 3) := dk_182 0 102 (dk_at dksX2_ticket_10 14 rfl rfl)
theorem dX2_ticket_249 : decode cX2_ticket 249 = .ok (.pop, 1) := dk_87 (dk_at dksX2_ticket_10 17 rfl rfl)
theorem dX2_ticket_250 : decode cX2_ticket 250 = .ok (.aload_n 0, 1) := dk_42 (dk_at dksX2_ticket_10 18 rfl rfl)
theorem dX2_ticket_251 : decode cX2_ticket 251 = .ok (.getfield 10, 3) := dk_180 0 10 (dk_at dksX2_ticket_10 19 rfl rfl)
theorem dX2_ticket_254 : decode cX2_ticket 254 = .ok (.aload 13, 2) := dk_25 13 (dk_at dksX2_ticket_10 22 rfl rfl)
theorem dX2_ticket_256 : decode cX2_ticket 256 = .ok (.invokevirtual 113, 3) := dk_182 0 113 (dk_at dksX2_ticket_11 0 rfl rfl)
theorem dX2_ticket_259 : decode cX2_ticket 259 = .ok (.pop, 1) := dk_87 (dk_at dksX2_ticket_11 3 rfl rfl)
theorem dX2_ticket_260 : decode cX2_ticket 260 = .ok (.aload_n 0, 1) := dk_42 (dk_at dksX2_ticket_11 4 rfl rfl)
theorem dX2_ticket_261 : decode cX2_ticket 261 = .ok (.getfield 19, 3) := dk_180 0 19 (dk_at dksX2_ticket_11 5 rfl rfl)
theorem dX2_ticket_264 : decode cX2_ticket 264 = .ok (.invokevirtual 43, 3) := dk_182 0 43 (dk_at dksX2_ticket_11 8 rfl rfl)
theorem dX2_ticket_267 : decode cX2_ticket 267 = .ok (.iconst 1, 1) := dk_4 (dk_at dksX2_ticket_11 11 rfl rfl)
theorem dX2_ticket_268 : decode cX2_ticket 268 = .ok (.isub, 1) := dk_100 (dk_at dksX2_ticket_11 12 rfl rfl)
theorem dX2_ticket_269 : decode cX2_ticket 269 = .ok (.ireturn, 1) := dk_172 (dk_at dksX2_ticket_11 13 rfl rfl)
abbrev cX2_share : ByteArray := prog_48_method_14_code
def yX2_share : MethodName := ⟨RX2, "share", "(II)J"⟩
def dkwX2_share_2 : List UInt8 := [192, 0, 48, 28, 182, 0, 155, 173]
abbrev dktX2_share_2 : List UInt8 := dkwX2_share_2 ++ []
def dkwX2_share_1 : List UInt8 := [182, 0, 121, 192, 0, 48, 182, 0, 152, 154, 0, 7, 20, 0, 77, 173, 42, 180, 0, 19, 27, 182, 0, 121]
abbrev dktX2_share_1 : List UInt8 := dkwX2_share_1 ++ dktX2_share_2
def dkwX2_share_0 : List UInt8 := [42, 27, 182, 0, 117, 153, 0, 30, 28, 155, 0, 26, 28, 16, 8, 162, 0, 20, 42, 180, 0, 19, 27]
abbrev dktX2_share_0 : List UInt8 := dkwX2_share_0 ++ dktX2_share_1
theorem dksX2_share_0 : cX2_share.data.toList.drop 0 = dktX2_share_0 := by decide +kernel
theorem dksX2_share_1 : cX2_share.data.toList.drop 23 = dktX2_share_1 := dk_seg dksX2_share_0 23 rfl rfl
theorem dksX2_share_2 : cX2_share.data.toList.drop 47 = dktX2_share_2 := dk_seg dksX2_share_1 24 rfl rfl
theorem dX2_share_0 : decode cX2_share 0 = .ok (.aload_n 0, 1) := dk_42 (dk_at dksX2_share_0 0 rfl rfl)
theorem dX2_share_1 : decode cX2_share 1 = .ok (.iload_n 1, 1) := dk_27 (dk_at dksX2_share_0 1 rfl rfl)
theorem dX2_share_2 : decode cX2_share 2 = .ok (.invokevirtual 117, 3) := dk_182 0 117 (dk_at dksX2_share_0 2 rfl rfl)
theorem dX2_share_5 : decode cX2_share 5 = .ok (.ifCond .eq 30, 3) := dk_153 0 30 (dk_at dksX2_share_0 5 rfl rfl)
theorem dX2_share_8 : decode cX2_share 8 = .ok (.iload_n 2, 1) := dk_28 (dk_at dksX2_share_0 8 rfl rfl)
theorem dX2_share_9 : decode cX2_share 9 = .ok (.ifCond .lt 26, 3) := dk_155 0 26 (dk_at dksX2_share_0 9 rfl rfl)
theorem dX2_share_12 : decode cX2_share 12 = .ok (.iload_n 2, 1) := dk_28 (dk_at dksX2_share_0 12 rfl rfl)
theorem dX2_share_13 : decode cX2_share 13 = .ok (.bipush 8, 2) := dk_16 8 (dk_at dksX2_share_0 13 rfl rfl)
theorem dX2_share_15 : decode cX2_share 15 = .ok (.if_icmp .ge 20, 3) := dk_162 0 20 (dk_at dksX2_share_0 15 rfl rfl)
theorem dX2_share_18 : decode cX2_share 18 = .ok (.aload_n 0, 1) := dk_42 (dk_at dksX2_share_0 18 rfl rfl)
theorem dX2_share_19 : decode cX2_share 19 = .ok (.getfield 19, 3) := dk_180 0 19 (dk_at dksX2_share_0 19 rfl rfl)
theorem dX2_share_22 : decode cX2_share 22 = .ok (.iload_n 1, 1) := dk_27 (dk_at dksX2_share_0 22 rfl rfl)
theorem dX2_share_23 : decode cX2_share 23 = .ok (.invokevirtual 121, 3) := dk_182 0 121 (dk_at dksX2_share_1 0 rfl rfl)
theorem dX2_share_26 : decode cX2_share 26 = .ok (.checkcast 48, 3) := dk_192 0 48 (dk_at dksX2_share_1 3 rfl rfl)
theorem dX2_share_29 : decode cX2_share 29 = .ok (.invokevirtual 152, 3) := dk_182 0 152 (dk_at dksX2_share_1 6 rfl rfl)
theorem dX2_share_32 : decode cX2_share 32 = .ok (.ifCond .ne 7, 3) := dk_154 0 7 (dk_at dksX2_share_1 9 rfl rfl)
theorem dX2_share_35 : decode cX2_share 35 = .ok (.ldc2_w 77, 3) := dk_20 0 77 (dk_at dksX2_share_1 12 rfl rfl)
theorem dX2_share_38 : decode cX2_share 38 = .ok (.lreturn, 1) := dk_173 (dk_at dksX2_share_1 15 rfl rfl)
theorem dX2_share_39 : decode cX2_share 39 = .ok (.aload_n 0, 1) := dk_42 (dk_at dksX2_share_1 16 rfl rfl)
theorem dX2_share_40 : decode cX2_share 40 = .ok (.getfield 19, 3) := dk_180 0 19 (dk_at dksX2_share_1 17 rfl rfl)
theorem dX2_share_43 : decode cX2_share 43 = .ok (.iload_n 1, 1) := dk_27 (dk_at dksX2_share_1 20 rfl rfl)
theorem dX2_share_44 : decode cX2_share 44 = .ok (.invokevirtual 121, 3) := dk_182 0 121 (dk_at dksX2_share_1 21 rfl rfl)
theorem dX2_share_47 : decode cX2_share 47 = .ok (.checkcast 48, 3) := dk_192 0 48 (dk_at dksX2_share_2 0 rfl rfl)
theorem dX2_share_50 : decode cX2_share 50 = .ok (.iload_n 2, 1) := dk_28 (dk_at dksX2_share_2 3 rfl rfl)
theorem dX2_share_51 : decode cX2_share 51 = .ok (.invokevirtual 155, 3) := dk_182 0 155 (dk_at dksX2_share_2 4 rfl rfl)
theorem dX2_share_54 : decode cX2_share 54 = .ok (.lreturn, 1) := dk_173 (dk_at dksX2_share_2 7 rfl rfl)
abbrev cX2_isTicket : ByteArray := prog_48_method_2_code
def yX2_isTicket : MethodName := ⟨RX2, "isTicket", "(I)Z"⟩
def dkwX2_isTicket_0 : List UInt8 := [27, 155, 0, 18, 27, 42, 180, 0, 19, 182, 0, 43, 162, 0, 7, 4, 167, 0, 4, 3, 172]
abbrev dktX2_isTicket_0 : List UInt8 := dkwX2_isTicket_0 ++ []
theorem dksX2_isTicket_0 : cX2_isTicket.data.toList.drop 0 = dktX2_isTicket_0 := by decide +kernel
theorem dX2_isTicket_0 : decode cX2_isTicket 0 = .ok (.iload_n 1, 1) := dk_27 (dk_at dksX2_isTicket_0 0 rfl rfl)
theorem dX2_isTicket_1 : decode cX2_isTicket 1 = .ok (.ifCond .lt 18, 3) := dk_155 0 18 (dk_at dksX2_isTicket_0 1 rfl rfl)
theorem dX2_isTicket_4 : decode cX2_isTicket 4 = .ok (.iload_n 1, 1) := dk_27 (dk_at dksX2_isTicket_0 4 rfl rfl)
theorem dX2_isTicket_5 : decode cX2_isTicket 5 = .ok (.aload_n 0, 1) := dk_42 (dk_at dksX2_isTicket_0 5 rfl rfl)
theorem dX2_isTicket_6 : decode cX2_isTicket 6 = .ok (.getfield 19, 3) := dk_180 0 19 (dk_at dksX2_isTicket_0 6 rfl rfl)
theorem dX2_isTicket_9 : decode cX2_isTicket 9 = .ok (.invokevirtual 43, 3) := dk_182 0 43 (dk_at dksX2_isTicket_0 9 rfl rfl)
theorem dX2_isTicket_12 : decode cX2_isTicket 12 = .ok (.if_icmp .ge 7, 3) := dk_162 0 7 (dk_at dksX2_isTicket_0 12 rfl rfl)
theorem dX2_isTicket_15 : decode cX2_isTicket 15 = .ok (.iconst 1, 1) := dk_4 (dk_at dksX2_isTicket_0 15 rfl rfl)
theorem dX2_isTicket_16 : decode cX2_isTicket 16 = .ok (.goto 4, 3) := dk_167 0 4 (dk_at dksX2_isTicket_0 16 rfl rfl)
theorem dX2_isTicket_19 : decode cX2_isTicket 19 = .ok (.iconst 0, 1) := dk_3 (dk_at dksX2_isTicket_0 19 rfl rfl)
theorem dX2_isTicket_20 : decode cX2_isTicket 20 = .ok (.ireturn, 1) := dk_172 (dk_at dksX2_isTicket_0 20 rfl rfl)
abbrev cX2_check : ByteArray := prog_48_method_19_code
def yX2_check : MethodName := ⟨RX2, "check", "(I)I"⟩
def dkwX2_check_1 : List UInt8 := [182, 0, 177, 172]
abbrev dktX2_check_1 : List UInt8 := dkwX2_check_1 ++ []
def dkwX2_check_0 : List UInt8 := [27, 155, 0, 14, 27, 42, 180, 0, 10, 182, 0, 144, 164, 0, 7, 2, 167, 0, 11, 42, 180, 0, 10, 27]
abbrev dktX2_check_0 : List UInt8 := dkwX2_check_0 ++ dktX2_check_1
theorem dksX2_check_0 : cX2_check.data.toList.drop 0 = dktX2_check_0 := by decide +kernel
theorem dksX2_check_1 : cX2_check.data.toList.drop 24 = dktX2_check_1 := dk_seg dksX2_check_0 24 rfl rfl
theorem dX2_check_0 : decode cX2_check 0 = .ok (.iload_n 1, 1) := dk_27 (dk_at dksX2_check_0 0 rfl rfl)
theorem dX2_check_1 : decode cX2_check 1 = .ok (.ifCond .lt 14, 3) := dk_155 0 14 (dk_at dksX2_check_0 1 rfl rfl)
theorem dX2_check_4 : decode cX2_check 4 = .ok (.iload_n 1, 1) := dk_27 (dk_at dksX2_check_0 4 rfl rfl)
theorem dX2_check_5 : decode cX2_check 5 = .ok (.aload_n 0, 1) := dk_42 (dk_at dksX2_check_0 5 rfl rfl)
theorem dX2_check_6 : decode cX2_check 6 = .ok (.getfield 10, 3) := dk_180 0 10 (dk_at dksX2_check_0 6 rfl rfl)
theorem dX2_check_9 : decode cX2_check 9 = .ok (.invokevirtual 144, 3) := dk_182 0 144 (dk_at dksX2_check_0 9 rfl rfl)
theorem dX2_check_12 : decode cX2_check 12 = .ok (.if_icmp .le 7, 3) := dk_164 0 7 (dk_at dksX2_check_0 12 rfl rfl)
theorem dX2_check_15 : decode cX2_check 15 = .ok (.iconst (-1), 1) := dk_2 (dk_at dksX2_check_0 15 rfl rfl)
theorem dX2_check_16 : decode cX2_check 16 = .ok (.goto 11, 3) := dk_167 0 11 (dk_at dksX2_check_0 16 rfl rfl)
theorem dX2_check_19 : decode cX2_check 19 = .ok (.aload_n 0, 1) := dk_42 (dk_at dksX2_check_0 19 rfl rfl)
theorem dX2_check_20 : decode cX2_check 20 = .ok (.getfield 10, 3) := dk_180 0 10 (dk_at dksX2_check_0 20 rfl rfl)
theorem dX2_check_23 : decode cX2_check 23 = .ok (.iload_n 1, 1) := dk_27 (dk_at dksX2_check_0 23 rfl rfl)
theorem dX2_check_24 : decode cX2_check 24 = .ok (.invokevirtual 177, 3) := dk_182 0 177 (dk_at dksX2_check_1 0 rfl rfl)
theorem dX2_check_27 : decode cX2_check 27 = .ok (.ireturn, 1) := dk_172 (dk_at dksX2_check_1 3 rfl rfl)
abbrev cX2_follows : ByteArray := prog_48_method_3_code
def yX2_follows : MethodName := ⟨RX2, "follows", "(IIJ)Z"⟩
def dkwX2_follows_3 : List UInt8 := [182, 0, 64, 87, 25, 5, 27, 184, 0, 54, 33, 184, 0, 68, 182, 0, 64, 87, 4, 172]
abbrev dktX2_follows_3 : List UInt8 := dkwX2_follows_3 ++ []
def dkwX2_follows_2 : List UInt8 := [199, 0, 26, 187, 0, 26, 89, 183, 0, 28, 58, 5, 42, 180, 0, 29, 28, 184, 0, 54, 25, 5]
abbrev dktX2_follows_2 : List UInt8 := dkwX2_follows_2 ++ dktX2_follows_3
def dkwX2_follows_1 : List UInt8 := [154, 0, 5, 3, 172, 42, 180, 0, 29, 28, 184, 0, 54, 182, 0, 60, 192, 0, 26, 58, 5, 25, 5]
abbrev dktX2_follows_1 : List UInt8 := dkwX2_follows_1 ++ dktX2_follows_2
def dkwX2_follows_0 : List UInt8 := [27, 155, 0, 26, 27, 18, 47, 163, 0, 20, 4, 28, 133, 184, 0, 50, 153, 0, 11, 7, 33, 184, 0, 50]
abbrev dktX2_follows_0 : List UInt8 := dkwX2_follows_0 ++ dktX2_follows_1
theorem dksX2_follows_0 : cX2_follows.data.toList.drop 0 = dktX2_follows_0 := by decide +kernel
theorem dksX2_follows_1 : cX2_follows.data.toList.drop 24 = dktX2_follows_1 := dk_seg dksX2_follows_0 24 rfl rfl
theorem dksX2_follows_2 : cX2_follows.data.toList.drop 47 = dktX2_follows_2 := dk_seg dksX2_follows_1 23 rfl rfl
theorem dksX2_follows_3 : cX2_follows.data.toList.drop 69 = dktX2_follows_3 := dk_seg dksX2_follows_2 22 rfl rfl
theorem dX2_follows_0 : decode cX2_follows 0 = .ok (.iload_n 1, 1) := dk_27 (dk_at dksX2_follows_0 0 rfl rfl)
theorem dX2_follows_1 : decode cX2_follows 1 = .ok (.ifCond .lt 26, 3) := dk_155 0 26 (dk_at dksX2_follows_0 1 rfl rfl)
theorem dX2_follows_4 : decode cX2_follows 4 = .ok (.iload_n 1, 1) := dk_27 (dk_at dksX2_follows_0 4 rfl rfl)
theorem dX2_follows_5 : decode cX2_follows 5 = .ok (.ldc 47, 2) := dk_18 47 (dk_at dksX2_follows_0 5 rfl rfl)
theorem dX2_follows_7 : decode cX2_follows 7 = .ok (.if_icmp .gt 20, 3) := dk_163 0 20 (dk_at dksX2_follows_0 7 rfl rfl)
theorem dX2_follows_10 : decode cX2_follows 10 = .ok (.iconst 1, 1) := dk_4 (dk_at dksX2_follows_0 10 rfl rfl)
theorem dX2_follows_11 : decode cX2_follows 11 = .ok (.iload_n 2, 1) := dk_28 (dk_at dksX2_follows_0 11 rfl rfl)
theorem dX2_follows_12 : decode cX2_follows 12 = .ok (.i2l, 1) := dk_133 (dk_at dksX2_follows_0 12 rfl rfl)
theorem dX2_follows_13 : decode cX2_follows 13 = .ok (.invokestatic 50, 3) := dk_184 0 50 (dk_at dksX2_follows_0 13 rfl rfl)
theorem dX2_follows_16 : decode cX2_follows 16 = .ok (.ifCond .eq 11, 3) := dk_153 0 11 (dk_at dksX2_follows_0 16 rfl rfl)
theorem dX2_follows_19 : decode cX2_follows 19 = .ok (.iconst 4, 1) := dk_7 (dk_at dksX2_follows_0 19 rfl rfl)
theorem dX2_follows_20 : decode cX2_follows 20 = .ok (.lload_n 3, 1) := dk_33 (dk_at dksX2_follows_0 20 rfl rfl)
theorem dX2_follows_21 : decode cX2_follows 21 = .ok (.invokestatic 50, 3) := dk_184 0 50 (dk_at dksX2_follows_0 21 rfl rfl)
theorem dX2_follows_24 : decode cX2_follows 24 = .ok (.ifCond .ne 5, 3) := dk_154 0 5 (dk_at dksX2_follows_1 0 rfl rfl)
theorem dX2_follows_27 : decode cX2_follows 27 = .ok (.iconst 0, 1) := dk_3 (dk_at dksX2_follows_1 3 rfl rfl)
theorem dX2_follows_28 : decode cX2_follows 28 = .ok (.ireturn, 1) := dk_172 (dk_at dksX2_follows_1 4 rfl rfl)
theorem dX2_follows_29 : decode cX2_follows 29 = .ok (.aload_n 0, 1) := dk_42 (dk_at dksX2_follows_1 5 rfl rfl)
theorem dX2_follows_30 : decode cX2_follows 30 = .ok (.getfield 29, 3) := dk_180 0 29 (dk_at dksX2_follows_1 6 rfl rfl)
theorem dX2_follows_33 : decode cX2_follows 33 = .ok (.iload_n 2, 1) := dk_28 (dk_at dksX2_follows_1 9 rfl rfl)
theorem dX2_follows_34 : decode cX2_follows 34 = .ok (.invokestatic 54, 3) := dk_184 0 54 (dk_at dksX2_follows_1 10 rfl rfl)
theorem dX2_follows_37 : decode cX2_follows 37 = .ok (.invokevirtual 60, 3) := dk_182 0 60 (dk_at dksX2_follows_1 13 rfl rfl)
theorem dX2_follows_40 : decode cX2_follows 40 = .ok (.checkcast 26, 3) := dk_192 0 26 (dk_at dksX2_follows_1 16 rfl rfl)
theorem dX2_follows_43 : decode cX2_follows 43 = .ok (.astore 5, 2) := dk_58 5 (dk_at dksX2_follows_1 19 rfl rfl)
theorem dX2_follows_45 : decode cX2_follows 45 = .ok (.aload 5, 2) := dk_25 5 (dk_at dksX2_follows_1 21 rfl rfl)
theorem dX2_follows_47 : decode cX2_follows 47 = .ok (.ifnonnull 26, 3) := dk_199 0 26 (dk_at dksX2_follows_2 0 rfl rfl)
theorem dX2_follows_50 : decode cX2_follows 50 = .ok (.new 26, 3) := dk_187 0 26 (dk_at dksX2_follows_2 3 rfl rfl)
theorem dX2_follows_53 : decode cX2_follows 53 = .ok (.dup, 1) := dk_89 (dk_at dksX2_follows_2 6 rfl rfl)
theorem dX2_follows_54 : decode cX2_follows 54 = .ok (.invokespecial 28, 3) := dk_183 0 28 (dk_at dksX2_follows_2 7 rfl rfl)
theorem dX2_follows_57 : decode cX2_follows 57 = .ok (.astore 5, 2) := dk_58 5 (dk_at dksX2_follows_2 10 rfl rfl)
theorem dX2_follows_59 : decode cX2_follows 59 = .ok (.aload_n 0, 1) := dk_42 (dk_at dksX2_follows_2 12 rfl rfl)
theorem dX2_follows_60 : decode cX2_follows 60 = .ok (.getfield 29, 3) := dk_180 0 29 (dk_at dksX2_follows_2 13 rfl rfl)
theorem dX2_follows_63 : decode cX2_follows 63 = .ok (.iload_n 2, 1) := dk_28 (dk_at dksX2_follows_2 16 rfl rfl)
theorem dX2_follows_64 : decode cX2_follows 64 = .ok (.invokestatic 54, 3) := dk_184 0 54 (dk_at dksX2_follows_2 17 rfl rfl)
theorem dX2_follows_67 : decode cX2_follows 67 = .ok (.aload 5, 2) := dk_25 5 (dk_at dksX2_follows_2 20 rfl rfl)
theorem dX2_follows_69 : decode cX2_follows 69 = .ok (.invokevirtual 64, 3) := dk_182 0 64 (dk_at dksX2_follows_3 0 rfl rfl)
theorem dX2_follows_72 : decode cX2_follows 72 = .ok (.pop, 1) := dk_87 (dk_at dksX2_follows_3 3 rfl rfl)
theorem dX2_follows_73 : decode cX2_follows 73 = .ok (.aload 5, 2) := dk_25 5 (dk_at dksX2_follows_3 4 rfl rfl)
theorem dX2_follows_75 : decode cX2_follows 75 = .ok (.iload_n 1, 1) := dk_27 (dk_at dksX2_follows_3 6 rfl rfl)
theorem dX2_follows_76 : decode cX2_follows 76 = .ok (.invokestatic 54, 3) := dk_184 0 54 (dk_at dksX2_follows_3 7 rfl rfl)
theorem dX2_follows_79 : decode cX2_follows 79 = .ok (.lload_n 3, 1) := dk_33 (dk_at dksX2_follows_3 10 rfl rfl)
theorem dX2_follows_80 : decode cX2_follows 80 = .ok (.invokestatic 68, 3) := dk_184 0 68 (dk_at dksX2_follows_3 11 rfl rfl)
theorem dX2_follows_83 : decode cX2_follows 83 = .ok (.invokevirtual 64, 3) := dk_182 0 64 (dk_at dksX2_follows_3 14 rfl rfl)
theorem dX2_follows_86 : decode cX2_follows 86 = .ok (.pop, 1) := dk_87 (dk_at dksX2_follows_3 17 rfl rfl)
theorem dX2_follows_87 : decode cX2_follows 87 = .ok (.iconst 1, 1) := dk_4 (dk_at dksX2_follows_3 18 rfl rfl)
theorem dX2_follows_88 : decode cX2_follows 88 = .ok (.ireturn, 1) := dk_172 (dk_at dksX2_follows_3 19 rfl rfl)
abbrev cX2_correct : ByteArray := prog_48_method_6_code
def yX2_correct : MethodName := ⟨RX2, "correct", "(IIJI)I"⟩
def dkwX2_correct_4 : List UInt8 := [182, 0, 109, 2, 172, 42, 2, 181, 0, 39, 42, 180, 0, 10, 25, 6, 28, 33, 21, 5, 182, 0, 130, 172]
abbrev dktX2_correct_4 : List UInt8 := dkwX2_correct_4 ++ []
def dkwX2_correct_3 : List UInt8 := [25, 6, 28, 33, 182, 0, 109, 25, 6, 8, 182, 0, 124, 9, 148, 156, 0, 13, 25, 6, 28, 22, 7]
abbrev dktX2_correct_3 : List UInt8 := dkwX2_correct_3 ++ dktX2_correct_4
def dkwX2_correct_2 : List UInt8 := [192, 0, 48, 58, 6, 25, 6, 28, 182, 0, 124, 55, 7, 25, 6, 182, 0, 127, 153, 0, 5, 2, 172]
abbrev dktX2_correct_2 : List UInt8 := dkwX2_correct_2 ++ dktX2_correct_3
def dkwX2_correct_1 : List UInt8 := [153, 0, 13, 42, 180, 0, 10, 182, 0, 89, 153, 0, 5, 2, 172, 42, 180, 0, 19, 27, 182, 0, 121]
abbrev dktX2_correct_1 : List UInt8 := dkwX2_correct_1 ++ dktX2_correct_2
def dkwX2_correct_0 : List UInt8 := [42, 27, 182, 0, 117, 153, 0, 32, 28, 33, 184, 0, 50, 153, 0, 24, 16, 7, 21, 5, 133, 184, 0, 50]
abbrev dktX2_correct_0 : List UInt8 := dkwX2_correct_0 ++ dktX2_correct_1
theorem dksX2_correct_0 : cX2_correct.data.toList.drop 0 = dktX2_correct_0 := by decide +kernel
theorem dksX2_correct_1 : cX2_correct.data.toList.drop 24 = dktX2_correct_1 := dk_seg dksX2_correct_0 24 rfl rfl
theorem dksX2_correct_2 : cX2_correct.data.toList.drop 47 = dktX2_correct_2 := dk_seg dksX2_correct_1 23 rfl rfl
theorem dksX2_correct_3 : cX2_correct.data.toList.drop 70 = dktX2_correct_3 := dk_seg dksX2_correct_2 23 rfl rfl
theorem dksX2_correct_4 : cX2_correct.data.toList.drop 93 = dktX2_correct_4 := dk_seg dksX2_correct_3 23 rfl rfl
theorem dX2_correct_0 : decode cX2_correct 0 = .ok (.aload_n 0, 1) := dk_42 (dk_at dksX2_correct_0 0 rfl rfl)
theorem dX2_correct_1 : decode cX2_correct 1 = .ok (.iload_n 1, 1) := dk_27 (dk_at dksX2_correct_0 1 rfl rfl)
theorem dX2_correct_2 : decode cX2_correct 2 = .ok (.invokevirtual 117, 3) := dk_182 0 117 (dk_at dksX2_correct_0 2 rfl rfl)
theorem dX2_correct_5 : decode cX2_correct 5 = .ok (.ifCond .eq 32, 3) := dk_153 0 32 (dk_at dksX2_correct_0 5 rfl rfl)
theorem dX2_correct_8 : decode cX2_correct 8 = .ok (.iload_n 2, 1) := dk_28 (dk_at dksX2_correct_0 8 rfl rfl)
theorem dX2_correct_9 : decode cX2_correct 9 = .ok (.lload_n 3, 1) := dk_33 (dk_at dksX2_correct_0 9 rfl rfl)
theorem dX2_correct_10 : decode cX2_correct 10 = .ok (.invokestatic 50, 3) := dk_184 0 50 (dk_at dksX2_correct_0 10 rfl rfl)
theorem dX2_correct_13 : decode cX2_correct 13 = .ok (.ifCond .eq 24, 3) := dk_153 0 24 (dk_at dksX2_correct_0 13 rfl rfl)
theorem dX2_correct_16 : decode cX2_correct 16 = .ok (.bipush 7, 2) := dk_16 7 (dk_at dksX2_correct_0 16 rfl rfl)
theorem dX2_correct_18 : decode cX2_correct 18 = .ok (.iload 5, 2) := dk_21 5 (dk_at dksX2_correct_0 18 rfl rfl)
theorem dX2_correct_20 : decode cX2_correct 20 = .ok (.i2l, 1) := dk_133 (dk_at dksX2_correct_0 20 rfl rfl)
theorem dX2_correct_21 : decode cX2_correct 21 = .ok (.invokestatic 50, 3) := dk_184 0 50 (dk_at dksX2_correct_0 21 rfl rfl)
theorem dX2_correct_24 : decode cX2_correct 24 = .ok (.ifCond .eq 13, 3) := dk_153 0 13 (dk_at dksX2_correct_1 0 rfl rfl)
theorem dX2_correct_27 : decode cX2_correct 27 = .ok (.aload_n 0, 1) := dk_42 (dk_at dksX2_correct_1 3 rfl rfl)
theorem dX2_correct_28 : decode cX2_correct 28 = .ok (.getfield 10, 3) := dk_180 0 10 (dk_at dksX2_correct_1 4 rfl rfl)
theorem dX2_correct_31 : decode cX2_correct 31 = .ok (.invokevirtual 89, 3) := dk_182 0 89 (dk_at dksX2_correct_1 7 rfl rfl)
theorem dX2_correct_34 : decode cX2_correct 34 = .ok (.ifCond .eq 5, 3) := dk_153 0 5 (dk_at dksX2_correct_1 10 rfl rfl)
theorem dX2_correct_37 : decode cX2_correct 37 = .ok (.iconst (-1), 1) := dk_2 (dk_at dksX2_correct_1 13 rfl rfl)
theorem dX2_correct_38 : decode cX2_correct 38 = .ok (.ireturn, 1) := dk_172 (dk_at dksX2_correct_1 14 rfl rfl)
theorem dX2_correct_39 : decode cX2_correct 39 = .ok (.aload_n 0, 1) := dk_42 (dk_at dksX2_correct_1 15 rfl rfl)
theorem dX2_correct_40 : decode cX2_correct 40 = .ok (.getfield 19, 3) := dk_180 0 19 (dk_at dksX2_correct_1 16 rfl rfl)
theorem dX2_correct_43 : decode cX2_correct 43 = .ok (.iload_n 1, 1) := dk_27 (dk_at dksX2_correct_1 19 rfl rfl)
theorem dX2_correct_44 : decode cX2_correct 44 = .ok (.invokevirtual 121, 3) := dk_182 0 121 (dk_at dksX2_correct_1 20 rfl rfl)
theorem dX2_correct_47 : decode cX2_correct 47 = .ok (.checkcast 48, 3) := dk_192 0 48 (dk_at dksX2_correct_2 0 rfl rfl)
theorem dX2_correct_50 : decode cX2_correct 50 = .ok (.astore 6, 2) := dk_58 6 (dk_at dksX2_correct_2 3 rfl rfl)
theorem dX2_correct_52 : decode cX2_correct 52 = .ok (.aload 6, 2) := dk_25 6 (dk_at dksX2_correct_2 5 rfl rfl)
theorem dX2_correct_54 : decode cX2_correct 54 = .ok (.iload_n 2, 1) := dk_28 (dk_at dksX2_correct_2 7 rfl rfl)
theorem dX2_correct_55 : decode cX2_correct 55 = .ok (.invokevirtual 124, 3) := dk_182 0 124 (dk_at dksX2_correct_2 8 rfl rfl)
theorem dX2_correct_58 : decode cX2_correct 58 = .ok (.lstore 7, 2) := dk_55 7 (dk_at dksX2_correct_2 11 rfl rfl)
theorem dX2_correct_60 : decode cX2_correct 60 = .ok (.aload 6, 2) := dk_25 6 (dk_at dksX2_correct_2 13 rfl rfl)
theorem dX2_correct_62 : decode cX2_correct 62 = .ok (.invokevirtual 127, 3) := dk_182 0 127 (dk_at dksX2_correct_2 15 rfl rfl)
theorem dX2_correct_65 : decode cX2_correct 65 = .ok (.ifCond .eq 5, 3) := dk_153 0 5 (dk_at dksX2_correct_2 18 rfl rfl)
theorem dX2_correct_68 : decode cX2_correct 68 = .ok (.iconst (-1), 1) := dk_2 (dk_at dksX2_correct_2 21 rfl rfl)
theorem dX2_correct_69 : decode cX2_correct 69 = .ok (.ireturn, 1) := dk_172 (dk_at dksX2_correct_2 22 rfl rfl)
theorem dX2_correct_70 : decode cX2_correct 70 = .ok (.aload 6, 2) := dk_25 6 (dk_at dksX2_correct_3 0 rfl rfl)
theorem dX2_correct_72 : decode cX2_correct 72 = .ok (.iload_n 2, 1) := dk_28 (dk_at dksX2_correct_3 2 rfl rfl)
theorem dX2_correct_73 : decode cX2_correct 73 = .ok (.lload_n 3, 1) := dk_33 (dk_at dksX2_correct_3 3 rfl rfl)
theorem dX2_correct_74 : decode cX2_correct 74 = .ok (.invokevirtual 109, 3) := dk_182 0 109 (dk_at dksX2_correct_3 4 rfl rfl)
theorem dX2_correct_77 : decode cX2_correct 77 = .ok (.aload 6, 2) := dk_25 6 (dk_at dksX2_correct_3 7 rfl rfl)
theorem dX2_correct_79 : decode cX2_correct 79 = .ok (.iconst 5, 1) := dk_8 (dk_at dksX2_correct_3 9 rfl rfl)
theorem dX2_correct_80 : decode cX2_correct 80 = .ok (.invokevirtual 124, 3) := dk_182 0 124 (dk_at dksX2_correct_3 10 rfl rfl)
theorem dX2_correct_83 : decode cX2_correct 83 = .ok (.lconst 0, 1) := dk_9 (dk_at dksX2_correct_3 13 rfl rfl)
theorem dX2_correct_84 : decode cX2_correct 84 = .ok (.lcmp, 1) := dk_148 (dk_at dksX2_correct_3 14 rfl rfl)
theorem dX2_correct_85 : decode cX2_correct 85 = .ok (.ifCond .ge 13, 3) := dk_156 0 13 (dk_at dksX2_correct_3 15 rfl rfl)
theorem dX2_correct_88 : decode cX2_correct 88 = .ok (.aload 6, 2) := dk_25 6 (dk_at dksX2_correct_3 18 rfl rfl)
theorem dX2_correct_90 : decode cX2_correct 90 = .ok (.iload_n 2, 1) := dk_28 (dk_at dksX2_correct_3 20 rfl rfl)
theorem dX2_correct_91 : decode cX2_correct 91 = .ok (.lload 7, 2) := dk_22 7 (dk_at dksX2_correct_3 21 rfl rfl)
theorem dX2_correct_93 : decode cX2_correct 93 = .ok (.invokevirtual 109, 3) := dk_182 0 109 (dk_at dksX2_correct_4 0 rfl rfl)
theorem dX2_correct_96 : decode cX2_correct 96 = .ok (.iconst (-1), 1) := dk_2 (dk_at dksX2_correct_4 3 rfl rfl)
theorem dX2_correct_97 : decode cX2_correct 97 = .ok (.ireturn, 1) := dk_172 (dk_at dksX2_correct_4 4 rfl rfl)
theorem dX2_correct_98 : decode cX2_correct 98 = .ok (.aload_n 0, 1) := dk_42 (dk_at dksX2_correct_4 5 rfl rfl)
theorem dX2_correct_99 : decode cX2_correct 99 = .ok (.iconst (-1), 1) := dk_2 (dk_at dksX2_correct_4 6 rfl rfl)
theorem dX2_correct_100 : decode cX2_correct 100 = .ok (.putfield 39, 3) := dk_181 0 39 (dk_at dksX2_correct_4 7 rfl rfl)
theorem dX2_correct_103 : decode cX2_correct 103 = .ok (.aload_n 0, 1) := dk_42 (dk_at dksX2_correct_4 10 rfl rfl)
theorem dX2_correct_104 : decode cX2_correct 104 = .ok (.getfield 10, 3) := dk_180 0 10 (dk_at dksX2_correct_4 11 rfl rfl)
theorem dX2_correct_107 : decode cX2_correct 107 = .ok (.aload 6, 2) := dk_25 6 (dk_at dksX2_correct_4 14 rfl rfl)
theorem dX2_correct_109 : decode cX2_correct 109 = .ok (.iload_n 2, 1) := dk_28 (dk_at dksX2_correct_4 16 rfl rfl)
theorem dX2_correct_110 : decode cX2_correct 110 = .ok (.lload_n 3, 1) := dk_33 (dk_at dksX2_correct_4 17 rfl rfl)
theorem dX2_correct_111 : decode cX2_correct 111 = .ok (.iload 5, 2) := dk_21 5 (dk_at dksX2_correct_4 18 rfl rfl)
theorem dX2_correct_113 : decode cX2_correct 113 = .ok (.invokevirtual 130, 3) := dk_182 0 130 (dk_at dksX2_correct_4 20 rfl rfl)
theorem dX2_correct_116 : decode cX2_correct 116 = .ok (.ireturn, 1) := dk_172 (dk_at dksX2_correct_4 23 rfl rfl)
abbrev cX2_voids : ByteArray := prog_48_method_7_code
def yX2_voids : MethodName := ⟨RX2, "voids", "(II)I"⟩
def dkwX2_voids_3 : List UInt8 := [181, 0, 39, 42, 180, 0, 10, 45, 28, 182, 0, 134, 172]
abbrev dktX2_voids_3 : List UInt8 := dkwX2_voids_3 ++ []
def dkwX2_voids_2 : List UInt8 := [42, 180, 0, 19, 27, 182, 0, 121, 192, 0, 48, 78, 45, 16, 8, 28, 133, 182, 0, 109, 42, 2]
abbrev dktX2_voids_2 : List UInt8 := dkwX2_voids_2 ++ dktX2_voids_3
def dkwX2_voids_1 : List UInt8 := [182, 0, 121, 192, 0, 48, 182, 0, 127, 154, 0, 13, 42, 180, 0, 10, 182, 0, 89, 153, 0, 5, 2, 172]
abbrev dktX2_voids_1 : List UInt8 := dkwX2_voids_1 ++ dktX2_voids_2
def dkwX2_voids_0 : List UInt8 := [42, 27, 182, 0, 117, 153, 0, 41, 28, 4, 161, 0, 36, 28, 16, 99, 163, 0, 30, 42, 180, 0, 19, 27]
abbrev dktX2_voids_0 : List UInt8 := dkwX2_voids_0 ++ dktX2_voids_1
theorem dksX2_voids_0 : cX2_voids.data.toList.drop 0 = dktX2_voids_0 := by decide +kernel
theorem dksX2_voids_1 : cX2_voids.data.toList.drop 24 = dktX2_voids_1 := dk_seg dksX2_voids_0 24 rfl rfl
theorem dksX2_voids_2 : cX2_voids.data.toList.drop 48 = dktX2_voids_2 := dk_seg dksX2_voids_1 24 rfl rfl
theorem dksX2_voids_3 : cX2_voids.data.toList.drop 70 = dktX2_voids_3 := dk_seg dksX2_voids_2 22 rfl rfl
theorem dX2_voids_0 : decode cX2_voids 0 = .ok (.aload_n 0, 1) := dk_42 (dk_at dksX2_voids_0 0 rfl rfl)
theorem dX2_voids_1 : decode cX2_voids 1 = .ok (.iload_n 1, 1) := dk_27 (dk_at dksX2_voids_0 1 rfl rfl)
theorem dX2_voids_2 : decode cX2_voids 2 = .ok (.invokevirtual 117, 3) := dk_182 0 117 (dk_at dksX2_voids_0 2 rfl rfl)
theorem dX2_voids_5 : decode cX2_voids 5 = .ok (.ifCond .eq 41, 3) := dk_153 0 41 (dk_at dksX2_voids_0 5 rfl rfl)
theorem dX2_voids_8 : decode cX2_voids 8 = .ok (.iload_n 2, 1) := dk_28 (dk_at dksX2_voids_0 8 rfl rfl)
theorem dX2_voids_9 : decode cX2_voids 9 = .ok (.iconst 1, 1) := dk_4 (dk_at dksX2_voids_0 9 rfl rfl)
theorem dX2_voids_10 : decode cX2_voids 10 = .ok (.if_icmp .lt 36, 3) := dk_161 0 36 (dk_at dksX2_voids_0 10 rfl rfl)
theorem dX2_voids_13 : decode cX2_voids 13 = .ok (.iload_n 2, 1) := dk_28 (dk_at dksX2_voids_0 13 rfl rfl)
theorem dX2_voids_14 : decode cX2_voids 14 = .ok (.bipush 99, 2) := dk_16 99 (dk_at dksX2_voids_0 14 rfl rfl)
theorem dX2_voids_16 : decode cX2_voids 16 = .ok (.if_icmp .gt 30, 3) := dk_163 0 30 (dk_at dksX2_voids_0 16 rfl rfl)
theorem dX2_voids_19 : decode cX2_voids 19 = .ok (.aload_n 0, 1) := dk_42 (dk_at dksX2_voids_0 19 rfl rfl)
theorem dX2_voids_20 : decode cX2_voids 20 = .ok (.getfield 19, 3) := dk_180 0 19 (dk_at dksX2_voids_0 20 rfl rfl)
theorem dX2_voids_23 : decode cX2_voids 23 = .ok (.iload_n 1, 1) := dk_27 (dk_at dksX2_voids_0 23 rfl rfl)
theorem dX2_voids_24 : decode cX2_voids 24 = .ok (.invokevirtual 121, 3) := dk_182 0 121 (dk_at dksX2_voids_1 0 rfl rfl)
theorem dX2_voids_27 : decode cX2_voids 27 = .ok (.checkcast 48, 3) := dk_192 0 48 (dk_at dksX2_voids_1 3 rfl rfl)
theorem dX2_voids_30 : decode cX2_voids 30 = .ok (.invokevirtual 127, 3) := dk_182 0 127 (dk_at dksX2_voids_1 6 rfl rfl)
theorem dX2_voids_33 : decode cX2_voids 33 = .ok (.ifCond .ne 13, 3) := dk_154 0 13 (dk_at dksX2_voids_1 9 rfl rfl)
theorem dX2_voids_36 : decode cX2_voids 36 = .ok (.aload_n 0, 1) := dk_42 (dk_at dksX2_voids_1 12 rfl rfl)
theorem dX2_voids_37 : decode cX2_voids 37 = .ok (.getfield 10, 3) := dk_180 0 10 (dk_at dksX2_voids_1 13 rfl rfl)
theorem dX2_voids_40 : decode cX2_voids 40 = .ok (.invokevirtual 89, 3) := dk_182 0 89 (dk_at dksX2_voids_1 16 rfl rfl)
theorem dX2_voids_43 : decode cX2_voids 43 = .ok (.ifCond .eq 5, 3) := dk_153 0 5 (dk_at dksX2_voids_1 19 rfl rfl)
theorem dX2_voids_46 : decode cX2_voids 46 = .ok (.iconst (-1), 1) := dk_2 (dk_at dksX2_voids_1 22 rfl rfl)
theorem dX2_voids_47 : decode cX2_voids 47 = .ok (.ireturn, 1) := dk_172 (dk_at dksX2_voids_1 23 rfl rfl)
theorem dX2_voids_48 : decode cX2_voids 48 = .ok (.aload_n 0, 1) := dk_42 (dk_at dksX2_voids_2 0 rfl rfl)
theorem dX2_voids_49 : decode cX2_voids 49 = .ok (.getfield 19, 3) := dk_180 0 19 (dk_at dksX2_voids_2 1 rfl rfl)
theorem dX2_voids_52 : decode cX2_voids 52 = .ok (.iload_n 1, 1) := dk_27 (dk_at dksX2_voids_2 4 rfl rfl)
theorem dX2_voids_53 : decode cX2_voids 53 = .ok (.invokevirtual 121, 3) := dk_182 0 121 (dk_at dksX2_voids_2 5 rfl rfl)
theorem dX2_voids_56 : decode cX2_voids 56 = .ok (.checkcast 48, 3) := dk_192 0 48 (dk_at dksX2_voids_2 8 rfl rfl)
theorem dX2_voids_59 : decode cX2_voids 59 = .ok (.astore_n 3, 1) := dk_78 (dk_at dksX2_voids_2 11 rfl rfl)
theorem dX2_voids_60 : decode cX2_voids 60 = .ok (.aload_n 3, 1) := dk_45 (dk_at dksX2_voids_2 12 rfl rfl)
theorem dX2_voids_61 : decode cX2_voids 61 = .ok (.bipush 8, 2) := dk_16 8 (dk_at dksX2_voids_2 13 rfl rfl)
theorem dX2_voids_63 : decode cX2_voids 63 = .ok (.iload_n 2, 1) := dk_28 (dk_at dksX2_voids_2 15 rfl rfl)
theorem dX2_voids_64 : decode cX2_voids 64 = .ok (.i2l, 1) := dk_133 (dk_at dksX2_voids_2 16 rfl rfl)
theorem dX2_voids_65 : decode cX2_voids 65 = .ok (.invokevirtual 109, 3) := dk_182 0 109 (dk_at dksX2_voids_2 17 rfl rfl)
theorem dX2_voids_68 : decode cX2_voids 68 = .ok (.aload_n 0, 1) := dk_42 (dk_at dksX2_voids_2 20 rfl rfl)
theorem dX2_voids_69 : decode cX2_voids 69 = .ok (.iconst (-1), 1) := dk_2 (dk_at dksX2_voids_2 21 rfl rfl)
theorem dX2_voids_70 : decode cX2_voids 70 = .ok (.putfield 39, 3) := dk_181 0 39 (dk_at dksX2_voids_3 0 rfl rfl)
theorem dX2_voids_73 : decode cX2_voids 73 = .ok (.aload_n 0, 1) := dk_42 (dk_at dksX2_voids_3 3 rfl rfl)
theorem dX2_voids_74 : decode cX2_voids 74 = .ok (.getfield 10, 3) := dk_180 0 10 (dk_at dksX2_voids_3 4 rfl rfl)
theorem dX2_voids_77 : decode cX2_voids 77 = .ok (.aload_n 3, 1) := dk_45 (dk_at dksX2_voids_3 7 rfl rfl)
theorem dX2_voids_78 : decode cX2_voids 78 = .ok (.iload_n 2, 1) := dk_28 (dk_at dksX2_voids_3 8 rfl rfl)
theorem dX2_voids_79 : decode cX2_voids 79 = .ok (.invokevirtual 134, 3) := dk_182 0 134 (dk_at dksX2_voids_3 9 rfl rfl)
theorem dX2_voids_82 : decode cX2_voids 82 = .ok (.ireturn, 1) := dk_172 (dk_at dksX2_voids_3 12 rfl rfl)
abbrev cX2_at : ByteArray := prog_48_method_8_code
def yX2_at : MethodName := ⟨RX2, "at", "(II)J"⟩
def dkwX2_at_1 : List UInt8 := [42, 180, 0, 19, 27, 182, 0, 121, 192, 0, 48, 28, 182, 0, 124, 173]
abbrev dktX2_at_1 : List UInt8 := dkwX2_at_1 ++ []
def dkwX2_at_0 : List UInt8 := [42, 27, 182, 0, 117, 153, 0, 13, 28, 155, 0, 9, 28, 16, 8, 164, 0, 9, 20, 0, 77, 167, 0, 18]
abbrev dktX2_at_0 : List UInt8 := dkwX2_at_0 ++ dktX2_at_1
theorem dksX2_at_0 : cX2_at.data.toList.drop 0 = dktX2_at_0 := by decide +kernel
theorem dksX2_at_1 : cX2_at.data.toList.drop 24 = dktX2_at_1 := dk_seg dksX2_at_0 24 rfl rfl
theorem dX2_at_0 : decode cX2_at 0 = .ok (.aload_n 0, 1) := dk_42 (dk_at dksX2_at_0 0 rfl rfl)
theorem dX2_at_1 : decode cX2_at 1 = .ok (.iload_n 1, 1) := dk_27 (dk_at dksX2_at_0 1 rfl rfl)
theorem dX2_at_2 : decode cX2_at 2 = .ok (.invokevirtual 117, 3) := dk_182 0 117 (dk_at dksX2_at_0 2 rfl rfl)
theorem dX2_at_5 : decode cX2_at 5 = .ok (.ifCond .eq 13, 3) := dk_153 0 13 (dk_at dksX2_at_0 5 rfl rfl)
theorem dX2_at_8 : decode cX2_at 8 = .ok (.iload_n 2, 1) := dk_28 (dk_at dksX2_at_0 8 rfl rfl)
theorem dX2_at_9 : decode cX2_at 9 = .ok (.ifCond .lt 9, 3) := dk_155 0 9 (dk_at dksX2_at_0 9 rfl rfl)
theorem dX2_at_12 : decode cX2_at 12 = .ok (.iload_n 2, 1) := dk_28 (dk_at dksX2_at_0 12 rfl rfl)
theorem dX2_at_13 : decode cX2_at 13 = .ok (.bipush 8, 2) := dk_16 8 (dk_at dksX2_at_0 13 rfl rfl)
theorem dX2_at_15 : decode cX2_at 15 = .ok (.if_icmp .le 9, 3) := dk_164 0 9 (dk_at dksX2_at_0 15 rfl rfl)
theorem dX2_at_18 : decode cX2_at 18 = .ok (.ldc2_w 77, 3) := dk_20 0 77 (dk_at dksX2_at_0 18 rfl rfl)
theorem dX2_at_21 : decode cX2_at 21 = .ok (.goto 18, 3) := dk_167 0 18 (dk_at dksX2_at_0 21 rfl rfl)
theorem dX2_at_24 : decode cX2_at 24 = .ok (.aload_n 0, 1) := dk_42 (dk_at dksX2_at_1 0 rfl rfl)
theorem dX2_at_25 : decode cX2_at 25 = .ok (.getfield 19, 3) := dk_180 0 19 (dk_at dksX2_at_1 1 rfl rfl)
theorem dX2_at_28 : decode cX2_at 28 = .ok (.iload_n 1, 1) := dk_27 (dk_at dksX2_at_1 4 rfl rfl)
theorem dX2_at_29 : decode cX2_at 29 = .ok (.invokevirtual 121, 3) := dk_182 0 121 (dk_at dksX2_at_1 5 rfl rfl)
theorem dX2_at_32 : decode cX2_at 32 = .ok (.checkcast 48, 3) := dk_192 0 48 (dk_at dksX2_at_1 8 rfl rfl)
theorem dX2_at_35 : decode cX2_at 35 = .ok (.iload_n 2, 1) := dk_28 (dk_at dksX2_at_1 11 rfl rfl)
theorem dX2_at_36 : decode cX2_at 36 = .ok (.invokevirtual 124, 3) := dk_182 0 124 (dk_at dksX2_at_1 12 rfl rfl)
theorem dX2_at_39 : decode cX2_at 39 = .ok (.lreturn, 1) := dk_173 (dk_at dksX2_at_1 15 rfl rfl)
abbrev cX2_number : ByteArray := prog_48_method_9_code
def yX2_number : MethodName := ⟨RX2, "number", "(I)I"⟩
def dkwX2_number_1 : List UInt8 := [167, 0, 4, 2, 172]
abbrev dktX2_number_1 : List UInt8 := dkwX2_number_1 ++ []
def dkwX2_number_0 : List UInt8 := [42, 27, 182, 0, 117, 153, 0, 20, 42, 180, 0, 19, 27, 182, 0, 121, 192, 0, 48, 180, 0, 138]
abbrev dktX2_number_0 : List UInt8 := dkwX2_number_0 ++ dktX2_number_1
theorem dksX2_number_0 : cX2_number.data.toList.drop 0 = dktX2_number_0 := by decide +kernel
theorem dksX2_number_1 : cX2_number.data.toList.drop 22 = dktX2_number_1 := dk_seg dksX2_number_0 22 rfl rfl
theorem dX2_number_0 : decode cX2_number 0 = .ok (.aload_n 0, 1) := dk_42 (dk_at dksX2_number_0 0 rfl rfl)
theorem dX2_number_1 : decode cX2_number 1 = .ok (.iload_n 1, 1) := dk_27 (dk_at dksX2_number_0 1 rfl rfl)
theorem dX2_number_2 : decode cX2_number 2 = .ok (.invokevirtual 117, 3) := dk_182 0 117 (dk_at dksX2_number_0 2 rfl rfl)
theorem dX2_number_5 : decode cX2_number 5 = .ok (.ifCond .eq 20, 3) := dk_153 0 20 (dk_at dksX2_number_0 5 rfl rfl)
theorem dX2_number_8 : decode cX2_number 8 = .ok (.aload_n 0, 1) := dk_42 (dk_at dksX2_number_0 8 rfl rfl)
theorem dX2_number_9 : decode cX2_number 9 = .ok (.getfield 19, 3) := dk_180 0 19 (dk_at dksX2_number_0 9 rfl rfl)
theorem dX2_number_12 : decode cX2_number 12 = .ok (.iload_n 1, 1) := dk_27 (dk_at dksX2_number_0 12 rfl rfl)
theorem dX2_number_13 : decode cX2_number 13 = .ok (.invokevirtual 121, 3) := dk_182 0 121 (dk_at dksX2_number_0 13 rfl rfl)
theorem dX2_number_16 : decode cX2_number 16 = .ok (.checkcast 48, 3) := dk_192 0 48 (dk_at dksX2_number_0 16 rfl rfl)
theorem dX2_number_19 : decode cX2_number 19 = .ok (.getfield 138, 3) := dk_180 0 138 (dk_at dksX2_number_0 19 rfl rfl)
theorem dX2_number_22 : decode cX2_number 22 = .ok (.goto 4, 3) := dk_167 0 4 (dk_at dksX2_number_1 0 rfl rfl)
theorem dX2_number_25 : decode cX2_number 25 = .ok (.iconst (-1), 1) := dk_2 (dk_at dksX2_number_1 3 rfl rfl)
theorem dX2_number_26 : decode cX2_number 26 = .ok (.ireturn, 1) := dk_172 (dk_at dksX2_number_1 4 rfl rfl)
abbrev cX2_gap : ByteArray := prog_48_method_10_code
def yX2_gap : MethodName := ⟨RX2, "gap", "(I)I"⟩
def dkwX2_gap_1 : List UInt8 := [182, 0, 121, 192, 0, 55, 182, 0, 141, 172]
abbrev dktX2_gap_1 : List UInt8 := dkwX2_gap_1 ++ []
def dkwX2_gap_0 : List UInt8 := [27, 155, 0, 14, 27, 42, 180, 0, 23, 182, 0, 43, 161, 0, 7, 2, 167, 0, 17, 42, 180, 0, 23, 27]
abbrev dktX2_gap_0 : List UInt8 := dkwX2_gap_0 ++ dktX2_gap_1
theorem dksX2_gap_0 : cX2_gap.data.toList.drop 0 = dktX2_gap_0 := by decide +kernel
theorem dksX2_gap_1 : cX2_gap.data.toList.drop 24 = dktX2_gap_1 := dk_seg dksX2_gap_0 24 rfl rfl
theorem dX2_gap_0 : decode cX2_gap 0 = .ok (.iload_n 1, 1) := dk_27 (dk_at dksX2_gap_0 0 rfl rfl)
theorem dX2_gap_1 : decode cX2_gap 1 = .ok (.ifCond .lt 14, 3) := dk_155 0 14 (dk_at dksX2_gap_0 1 rfl rfl)
theorem dX2_gap_4 : decode cX2_gap 4 = .ok (.iload_n 1, 1) := dk_27 (dk_at dksX2_gap_0 4 rfl rfl)
theorem dX2_gap_5 : decode cX2_gap 5 = .ok (.aload_n 0, 1) := dk_42 (dk_at dksX2_gap_0 5 rfl rfl)
theorem dX2_gap_6 : decode cX2_gap 6 = .ok (.getfield 23, 3) := dk_180 0 23 (dk_at dksX2_gap_0 6 rfl rfl)
theorem dX2_gap_9 : decode cX2_gap 9 = .ok (.invokevirtual 43, 3) := dk_182 0 43 (dk_at dksX2_gap_0 9 rfl rfl)
theorem dX2_gap_12 : decode cX2_gap 12 = .ok (.if_icmp .lt 7, 3) := dk_161 0 7 (dk_at dksX2_gap_0 12 rfl rfl)
theorem dX2_gap_15 : decode cX2_gap 15 = .ok (.iconst (-1), 1) := dk_2 (dk_at dksX2_gap_0 15 rfl rfl)
theorem dX2_gap_16 : decode cX2_gap 16 = .ok (.goto 17, 3) := dk_167 0 17 (dk_at dksX2_gap_0 16 rfl rfl)
theorem dX2_gap_19 : decode cX2_gap 19 = .ok (.aload_n 0, 1) := dk_42 (dk_at dksX2_gap_0 19 rfl rfl)
theorem dX2_gap_20 : decode cX2_gap 20 = .ok (.getfield 23, 3) := dk_180 0 23 (dk_at dksX2_gap_0 20 rfl rfl)
theorem dX2_gap_23 : decode cX2_gap 23 = .ok (.iload_n 1, 1) := dk_27 (dk_at dksX2_gap_0 23 rfl rfl)
theorem dX2_gap_24 : decode cX2_gap 24 = .ok (.invokevirtual 121, 3) := dk_182 0 121 (dk_at dksX2_gap_1 0 rfl rfl)
theorem dX2_gap_27 : decode cX2_gap 27 = .ok (.checkcast 55, 3) := dk_192 0 55 (dk_at dksX2_gap_1 3 rfl rfl)
theorem dX2_gap_30 : decode cX2_gap 30 = .ok (.invokevirtual 141, 3) := dk_182 0 141 (dk_at dksX2_gap_1 6 rfl rfl)
theorem dX2_gap_33 : decode cX2_gap 33 = .ok (.ireturn, 1) := dk_172 (dk_at dksX2_gap_1 9 rfl rfl)
abbrev cX2_rows : ByteArray := prog_48_method_11_code
def yX2_rows : MethodName := ⟨RX2, "rows", "()I"⟩
def dkwX2_rows_0 : List UInt8 := [42, 180, 0, 10, 182, 0, 144, 172]
abbrev dktX2_rows_0 : List UInt8 := dkwX2_rows_0 ++ []
theorem dksX2_rows_0 : cX2_rows.data.toList.drop 0 = dktX2_rows_0 := by decide +kernel
theorem dX2_rows_0 : decode cX2_rows 0 = .ok (.aload_n 0, 1) := dk_42 (dk_at dksX2_rows_0 0 rfl rfl)
theorem dX2_rows_1 : decode cX2_rows 1 = .ok (.getfield 10, 3) := dk_180 0 10 (dk_at dksX2_rows_0 1 rfl rfl)
theorem dX2_rows_4 : decode cX2_rows 4 = .ok (.invokevirtual 144, 3) := dk_182 0 144 (dk_at dksX2_rows_0 4 rfl rfl)
theorem dX2_rows_7 : decode cX2_rows 7 = .ok (.ireturn, 1) := dk_172 (dk_at dksX2_rows_0 7 rfl rfl)
abbrev cX2_made : ByteArray := prog_48_method_12_code
def yX2_made : MethodName := ⟨RX2, "made", "()I"⟩
theorem dX2_made_0 : decode cX2_made 0 = .ok (.aload_n 0, 1) := by decide +kernel
theorem dX2_made_1 : decode cX2_made 1 = .ok (.getfield 93, 3) := by decide +kernel
theorem dX2_made_4 : decode cX2_made 4 = .ok (.ireturn, 1) := by decide +kernel
abbrev cX2_split : ByteArray := prog_48_method_13_code
def yX2_split : MethodName := ⟨RX2, "split", "(IIJ)Z"⟩
def dkwX2_split_2 : List UInt8 := [182, 0, 149, 4, 172]
abbrev dktX2_split_2 : List UInt8 := dkwX2_split_2 ++ []
def dkwX2_split_1 : List UInt8 := [33, 20, 0, 147, 148, 158, 0, 5, 3, 172, 42, 180, 0, 19, 27, 182, 0, 121, 192, 0, 48, 28, 33]
abbrev dktX2_split_1 : List UInt8 := dkwX2_split_1 ++ dktX2_split_2
def dkwX2_split_0 : List UInt8 := [42, 27, 182, 0, 117, 153, 0, 27, 28, 155, 0, 23, 28, 16, 8, 162, 0, 17, 33, 9, 148, 155, 0, 11]
abbrev dktX2_split_0 : List UInt8 := dkwX2_split_0 ++ dktX2_split_1
theorem dksX2_split_0 : cX2_split.data.toList.drop 0 = dktX2_split_0 := by decide +kernel
theorem dksX2_split_1 : cX2_split.data.toList.drop 24 = dktX2_split_1 := dk_seg dksX2_split_0 24 rfl rfl
theorem dksX2_split_2 : cX2_split.data.toList.drop 47 = dktX2_split_2 := dk_seg dksX2_split_1 23 rfl rfl
theorem dX2_split_0 : decode cX2_split 0 = .ok (.aload_n 0, 1) := dk_42 (dk_at dksX2_split_0 0 rfl rfl)
theorem dX2_split_1 : decode cX2_split 1 = .ok (.iload_n 1, 1) := dk_27 (dk_at dksX2_split_0 1 rfl rfl)
theorem dX2_split_2 : decode cX2_split 2 = .ok (.invokevirtual 117, 3) := dk_182 0 117 (dk_at dksX2_split_0 2 rfl rfl)
theorem dX2_split_5 : decode cX2_split 5 = .ok (.ifCond .eq 27, 3) := dk_153 0 27 (dk_at dksX2_split_0 5 rfl rfl)
theorem dX2_split_8 : decode cX2_split 8 = .ok (.iload_n 2, 1) := dk_28 (dk_at dksX2_split_0 8 rfl rfl)
theorem dX2_split_9 : decode cX2_split 9 = .ok (.ifCond .lt 23, 3) := dk_155 0 23 (dk_at dksX2_split_0 9 rfl rfl)
theorem dX2_split_12 : decode cX2_split 12 = .ok (.iload_n 2, 1) := dk_28 (dk_at dksX2_split_0 12 rfl rfl)
theorem dX2_split_13 : decode cX2_split 13 = .ok (.bipush 8, 2) := dk_16 8 (dk_at dksX2_split_0 13 rfl rfl)
theorem dX2_split_15 : decode cX2_split 15 = .ok (.if_icmp .ge 17, 3) := dk_162 0 17 (dk_at dksX2_split_0 15 rfl rfl)
theorem dX2_split_18 : decode cX2_split 18 = .ok (.lload_n 3, 1) := dk_33 (dk_at dksX2_split_0 18 rfl rfl)
theorem dX2_split_19 : decode cX2_split 19 = .ok (.lconst 0, 1) := dk_9 (dk_at dksX2_split_0 19 rfl rfl)
theorem dX2_split_20 : decode cX2_split 20 = .ok (.lcmp, 1) := dk_148 (dk_at dksX2_split_0 20 rfl rfl)
theorem dX2_split_21 : decode cX2_split 21 = .ok (.ifCond .lt 11, 3) := dk_155 0 11 (dk_at dksX2_split_0 21 rfl rfl)
theorem dX2_split_24 : decode cX2_split 24 = .ok (.lload_n 3, 1) := dk_33 (dk_at dksX2_split_1 0 rfl rfl)
theorem dX2_split_25 : decode cX2_split 25 = .ok (.ldc2_w 147, 3) := dk_20 0 147 (dk_at dksX2_split_1 1 rfl rfl)
theorem dX2_split_28 : decode cX2_split 28 = .ok (.lcmp, 1) := dk_148 (dk_at dksX2_split_1 4 rfl rfl)
theorem dX2_split_29 : decode cX2_split 29 = .ok (.ifCond .le 5, 3) := dk_158 0 5 (dk_at dksX2_split_1 5 rfl rfl)
theorem dX2_split_32 : decode cX2_split 32 = .ok (.iconst 0, 1) := dk_3 (dk_at dksX2_split_1 8 rfl rfl)
theorem dX2_split_33 : decode cX2_split 33 = .ok (.ireturn, 1) := dk_172 (dk_at dksX2_split_1 9 rfl rfl)
theorem dX2_split_34 : decode cX2_split 34 = .ok (.aload_n 0, 1) := dk_42 (dk_at dksX2_split_1 10 rfl rfl)
theorem dX2_split_35 : decode cX2_split 35 = .ok (.getfield 19, 3) := dk_180 0 19 (dk_at dksX2_split_1 11 rfl rfl)
theorem dX2_split_38 : decode cX2_split 38 = .ok (.iload_n 1, 1) := dk_27 (dk_at dksX2_split_1 14 rfl rfl)
theorem dX2_split_39 : decode cX2_split 39 = .ok (.invokevirtual 121, 3) := dk_182 0 121 (dk_at dksX2_split_1 15 rfl rfl)
theorem dX2_split_42 : decode cX2_split 42 = .ok (.checkcast 48, 3) := dk_192 0 48 (dk_at dksX2_split_1 18 rfl rfl)
theorem dX2_split_45 : decode cX2_split 45 = .ok (.iload_n 2, 1) := dk_28 (dk_at dksX2_split_1 21 rfl rfl)
theorem dX2_split_46 : decode cX2_split 46 = .ok (.lload_n 3, 1) := dk_33 (dk_at dksX2_split_1 22 rfl rfl)
theorem dX2_split_47 : decode cX2_split 47 = .ok (.invokevirtual 149, 3) := dk_182 0 149 (dk_at dksX2_split_2 0 rfl rfl)
theorem dX2_split_50 : decode cX2_split 50 = .ok (.iconst 1, 1) := dk_4 (dk_at dksX2_split_2 3 rfl rfl)
theorem dX2_split_51 : decode cX2_split 51 = .ok (.ireturn, 1) := dk_172 (dk_at dksX2_split_2 4 rfl rfl)
abbrev cX2_print : ByteArray := prog_48_method_15_code
def yX2_print : MethodName := ⟨RX2, "print", "(II)I"⟩
def dkwX2_print_2 : List UInt8 := [180, 0, 35, 182, 0, 161, 161, 0, 7, 2, 167, 0, 11, 42, 180, 0, 35, 28, 182, 0, 166, 172]
abbrev dktX2_print_2 : List UInt8 := dkwX2_print_2 ++ []
def dkwX2_print_1 : List UInt8 := [182, 0, 121, 192, 0, 48, 182, 0, 158, 181, 0, 35, 42, 27, 181, 0, 39, 28, 155, 0, 14, 28, 42]
abbrev dktX2_print_1 : List UInt8 := dkwX2_print_1 ++ dktX2_print_2
def dkwX2_print_0 : List UInt8 := [42, 27, 182, 0, 117, 154, 0, 5, 2, 172, 42, 180, 0, 39, 27, 159, 0, 26, 42, 42, 180, 0, 19, 27]
abbrev dktX2_print_0 : List UInt8 := dkwX2_print_0 ++ dktX2_print_1
theorem dksX2_print_0 : cX2_print.data.toList.drop 0 = dktX2_print_0 := by decide +kernel
theorem dksX2_print_1 : cX2_print.data.toList.drop 24 = dktX2_print_1 := dk_seg dksX2_print_0 24 rfl rfl
theorem dksX2_print_2 : cX2_print.data.toList.drop 47 = dktX2_print_2 := dk_seg dksX2_print_1 23 rfl rfl
theorem dX2_print_0 : decode cX2_print 0 = .ok (.aload_n 0, 1) := dk_42 (dk_at dksX2_print_0 0 rfl rfl)
theorem dX2_print_1 : decode cX2_print 1 = .ok (.iload_n 1, 1) := dk_27 (dk_at dksX2_print_0 1 rfl rfl)
theorem dX2_print_2 : decode cX2_print 2 = .ok (.invokevirtual 117, 3) := dk_182 0 117 (dk_at dksX2_print_0 2 rfl rfl)
theorem dX2_print_5 : decode cX2_print 5 = .ok (.ifCond .ne 5, 3) := dk_154 0 5 (dk_at dksX2_print_0 5 rfl rfl)
theorem dX2_print_8 : decode cX2_print 8 = .ok (.iconst (-1), 1) := dk_2 (dk_at dksX2_print_0 8 rfl rfl)
theorem dX2_print_9 : decode cX2_print 9 = .ok (.ireturn, 1) := dk_172 (dk_at dksX2_print_0 9 rfl rfl)
theorem dX2_print_10 : decode cX2_print 10 = .ok (.aload_n 0, 1) := dk_42 (dk_at dksX2_print_0 10 rfl rfl)
theorem dX2_print_11 : decode cX2_print 11 = .ok (.getfield 39, 3) := dk_180 0 39 (dk_at dksX2_print_0 11 rfl rfl)
theorem dX2_print_14 : decode cX2_print 14 = .ok (.iload_n 1, 1) := dk_27 (dk_at dksX2_print_0 14 rfl rfl)
theorem dX2_print_15 : decode cX2_print 15 = .ok (.if_icmp .eq 26, 3) := dk_159 0 26 (dk_at dksX2_print_0 15 rfl rfl)
theorem dX2_print_18 : decode cX2_print 18 = .ok (.aload_n 0, 1) := dk_42 (dk_at dksX2_print_0 18 rfl rfl)
theorem dX2_print_19 : decode cX2_print 19 = .ok (.aload_n 0, 1) := dk_42 (dk_at dksX2_print_0 19 rfl rfl)
theorem dX2_print_20 : decode cX2_print 20 = .ok (.getfield 19, 3) := dk_180 0 19 (dk_at dksX2_print_0 20 rfl rfl)
theorem dX2_print_23 : decode cX2_print 23 = .ok (.iload_n 1, 1) := dk_27 (dk_at dksX2_print_0 23 rfl rfl)
theorem dX2_print_24 : decode cX2_print 24 = .ok (.invokevirtual 121, 3) := dk_182 0 121 (dk_at dksX2_print_1 0 rfl rfl)
theorem dX2_print_27 : decode cX2_print 27 = .ok (.checkcast 48, 3) := dk_192 0 48 (dk_at dksX2_print_1 3 rfl rfl)
theorem dX2_print_30 : decode cX2_print 30 = .ok (.invokevirtual 158, 3) := dk_182 0 158 (dk_at dksX2_print_1 6 rfl rfl)
theorem dX2_print_33 : decode cX2_print 33 = .ok (.putfield 35, 3) := dk_181 0 35 (dk_at dksX2_print_1 9 rfl rfl)
theorem dX2_print_36 : decode cX2_print 36 = .ok (.aload_n 0, 1) := dk_42 (dk_at dksX2_print_1 12 rfl rfl)
theorem dX2_print_37 : decode cX2_print 37 = .ok (.iload_n 1, 1) := dk_27 (dk_at dksX2_print_1 13 rfl rfl)
theorem dX2_print_38 : decode cX2_print 38 = .ok (.putfield 39, 3) := dk_181 0 39 (dk_at dksX2_print_1 14 rfl rfl)
theorem dX2_print_41 : decode cX2_print 41 = .ok (.iload_n 2, 1) := dk_28 (dk_at dksX2_print_1 17 rfl rfl)
theorem dX2_print_42 : decode cX2_print 42 = .ok (.ifCond .lt 14, 3) := dk_155 0 14 (dk_at dksX2_print_1 18 rfl rfl)
theorem dX2_print_45 : decode cX2_print 45 = .ok (.iload_n 2, 1) := dk_28 (dk_at dksX2_print_1 21 rfl rfl)
theorem dX2_print_46 : decode cX2_print 46 = .ok (.aload_n 0, 1) := dk_42 (dk_at dksX2_print_1 22 rfl rfl)
theorem dX2_print_47 : decode cX2_print 47 = .ok (.getfield 35, 3) := dk_180 0 35 (dk_at dksX2_print_2 0 rfl rfl)
theorem dX2_print_50 : decode cX2_print 50 = .ok (.invokevirtual 161, 3) := dk_182 0 161 (dk_at dksX2_print_2 3 rfl rfl)
theorem dX2_print_53 : decode cX2_print 53 = .ok (.if_icmp .lt 7, 3) := dk_161 0 7 (dk_at dksX2_print_2 6 rfl rfl)
theorem dX2_print_56 : decode cX2_print 56 = .ok (.iconst (-1), 1) := dk_2 (dk_at dksX2_print_2 9 rfl rfl)
theorem dX2_print_57 : decode cX2_print 57 = .ok (.goto 11, 3) := dk_167 0 11 (dk_at dksX2_print_2 10 rfl rfl)
theorem dX2_print_60 : decode cX2_print 60 = .ok (.aload_n 0, 1) := dk_42 (dk_at dksX2_print_2 13 rfl rfl)
theorem dX2_print_61 : decode cX2_print 61 = .ok (.getfield 35, 3) := dk_180 0 35 (dk_at dksX2_print_2 14 rfl rfl)
theorem dX2_print_64 : decode cX2_print 64 = .ok (.iload_n 2, 1) := dk_28 (dk_at dksX2_print_2 17 rfl rfl)
theorem dX2_print_65 : decode cX2_print 65 = .ok (.invokevirtual 166, 3) := dk_182 0 166 (dk_at dksX2_print_2 18 rfl rfl)
theorem dX2_print_68 : decode cX2_print 68 = .ok (.ireturn, 1) := dk_172 (dk_at dksX2_print_2 21 rfl rfl)
abbrev cX2_poke : ByteArray := prog_48_method_16_code
def yX2_poke : MethodName := ⟨RX2, "poke", "(III)Z"⟩
def dkwX2_poke_2 : List UInt8 := [145, 130, 145, 84, 4, 172]
abbrev dktX2_poke_2 : List UInt8 := dkwX2_poke_2 ++ []
def dkwX2_poke_1 : List UInt8 := [161, 0, 10, 29, 17, 0, 255, 164, 0, 5, 3, 172, 42, 180, 0, 10, 27, 182, 0, 173, 28, 92, 51, 29]
abbrev dktX2_poke_1 : List UInt8 := dkwX2_poke_1 ++ dktX2_poke_2
def dkwX2_poke_0 : List UInt8 := [42, 180, 0, 10, 27, 182, 0, 170, 153, 0, 25, 28, 155, 0, 21, 28, 16, 73, 162, 0, 15, 29, 4]
abbrev dktX2_poke_0 : List UInt8 := dkwX2_poke_0 ++ dktX2_poke_1
theorem dksX2_poke_0 : cX2_poke.data.toList.drop 0 = dktX2_poke_0 := by decide +kernel
theorem dksX2_poke_1 : cX2_poke.data.toList.drop 23 = dktX2_poke_1 := dk_seg dksX2_poke_0 23 rfl rfl
theorem dksX2_poke_2 : cX2_poke.data.toList.drop 47 = dktX2_poke_2 := dk_seg dksX2_poke_1 24 rfl rfl
theorem dX2_poke_0 : decode cX2_poke 0 = .ok (.aload_n 0, 1) := dk_42 (dk_at dksX2_poke_0 0 rfl rfl)
theorem dX2_poke_1 : decode cX2_poke 1 = .ok (.getfield 10, 3) := dk_180 0 10 (dk_at dksX2_poke_0 1 rfl rfl)
theorem dX2_poke_4 : decode cX2_poke 4 = .ok (.iload_n 1, 1) := dk_27 (dk_at dksX2_poke_0 4 rfl rfl)
theorem dX2_poke_5 : decode cX2_poke 5 = .ok (.invokevirtual 170, 3) := dk_182 0 170 (dk_at dksX2_poke_0 5 rfl rfl)
theorem dX2_poke_8 : decode cX2_poke 8 = .ok (.ifCond .eq 25, 3) := dk_153 0 25 (dk_at dksX2_poke_0 8 rfl rfl)
theorem dX2_poke_11 : decode cX2_poke 11 = .ok (.iload_n 2, 1) := dk_28 (dk_at dksX2_poke_0 11 rfl rfl)
theorem dX2_poke_12 : decode cX2_poke 12 = .ok (.ifCond .lt 21, 3) := dk_155 0 21 (dk_at dksX2_poke_0 12 rfl rfl)
theorem dX2_poke_15 : decode cX2_poke 15 = .ok (.iload_n 2, 1) := dk_28 (dk_at dksX2_poke_0 15 rfl rfl)
theorem dX2_poke_16 : decode cX2_poke 16 = .ok (.bipush 73, 2) := dk_16 73 (dk_at dksX2_poke_0 16 rfl rfl)
theorem dX2_poke_18 : decode cX2_poke 18 = .ok (.if_icmp .ge 15, 3) := dk_162 0 15 (dk_at dksX2_poke_0 18 rfl rfl)
theorem dX2_poke_21 : decode cX2_poke 21 = .ok (.iload_n 3, 1) := dk_29 (dk_at dksX2_poke_0 21 rfl rfl)
theorem dX2_poke_22 : decode cX2_poke 22 = .ok (.iconst 1, 1) := dk_4 (dk_at dksX2_poke_0 22 rfl rfl)
theorem dX2_poke_23 : decode cX2_poke 23 = .ok (.if_icmp .lt 10, 3) := dk_161 0 10 (dk_at dksX2_poke_1 0 rfl rfl)
theorem dX2_poke_26 : decode cX2_poke 26 = .ok (.iload_n 3, 1) := dk_29 (dk_at dksX2_poke_1 3 rfl rfl)
theorem dX2_poke_27 : decode cX2_poke 27 = .ok (.sipush 255, 3) := dk_17 0 255 (dk_at dksX2_poke_1 4 rfl rfl)
theorem dX2_poke_30 : decode cX2_poke 30 = .ok (.if_icmp .le 5, 3) := dk_164 0 5 (dk_at dksX2_poke_1 7 rfl rfl)
theorem dX2_poke_33 : decode cX2_poke 33 = .ok (.iconst 0, 1) := dk_3 (dk_at dksX2_poke_1 10 rfl rfl)
theorem dX2_poke_34 : decode cX2_poke 34 = .ok (.ireturn, 1) := dk_172 (dk_at dksX2_poke_1 11 rfl rfl)
theorem dX2_poke_35 : decode cX2_poke 35 = .ok (.aload_n 0, 1) := dk_42 (dk_at dksX2_poke_1 12 rfl rfl)
theorem dX2_poke_36 : decode cX2_poke 36 = .ok (.getfield 10, 3) := dk_180 0 10 (dk_at dksX2_poke_1 13 rfl rfl)
theorem dX2_poke_39 : decode cX2_poke 39 = .ok (.iload_n 1, 1) := dk_27 (dk_at dksX2_poke_1 16 rfl rfl)
theorem dX2_poke_40 : decode cX2_poke 40 = .ok (.invokevirtual 173, 3) := dk_182 0 173 (dk_at dksX2_poke_1 17 rfl rfl)
theorem dX2_poke_43 : decode cX2_poke 43 = .ok (.iload_n 2, 1) := dk_28 (dk_at dksX2_poke_1 20 rfl rfl)
theorem dX2_poke_44 : decode cX2_poke 44 = .ok (.dup2, 1) := dk_92 (dk_at dksX2_poke_1 21 rfl rfl)
theorem dX2_poke_45 : decode cX2_poke 45 = .ok (.baload, 1) := dk_51 (dk_at dksX2_poke_1 22 rfl rfl)
theorem dX2_poke_46 : decode cX2_poke 46 = .ok (.iload_n 3, 1) := dk_29 (dk_at dksX2_poke_1 23 rfl rfl)
theorem dX2_poke_47 : decode cX2_poke 47 = .ok (.i2b, 1) := dk_145 (dk_at dksX2_poke_2 0 rfl rfl)
theorem dX2_poke_48 : decode cX2_poke 48 = .ok (.ixor, 1) := dk_130 (dk_at dksX2_poke_2 1 rfl rfl)
theorem dX2_poke_49 : decode cX2_poke 49 = .ok (.i2b, 1) := dk_145 (dk_at dksX2_poke_2 2 rfl rfl)
theorem dX2_poke_50 : decode cX2_poke 50 = .ok (.bastore, 1) := dk_84 (dk_at dksX2_poke_2 3 rfl rfl)
theorem dX2_poke_51 : decode cX2_poke 51 = .ok (.iconst 1, 1) := dk_4 (dk_at dksX2_poke_2 4 rfl rfl)
theorem dX2_poke_52 : decode cX2_poke 52 = .ok (.ireturn, 1) := dk_172 (dk_at dksX2_poke_2 5 rfl rfl)
abbrev cX2_byteAt : ByteArray := prog_48_method_17_code
def yX2_byteAt : MethodName := ⟨RX2, "byteAt", "(II)I"⟩
def dkwX2_byteAt_1 : List UInt8 := [188, 8, 78, 45, 28, 51, 17, 0, 255, 126, 172]
abbrev dktX2_byteAt_1 : List UInt8 := dkwX2_byteAt_1 ++ []
def dkwX2_byteAt_0 : List UInt8 := [42, 180, 0, 10, 27, 182, 0, 170, 153, 0, 14, 42, 180, 0, 10, 27, 182, 0, 173, 167, 0, 6, 3]
abbrev dktX2_byteAt_0 : List UInt8 := dkwX2_byteAt_0 ++ dktX2_byteAt_1
theorem dksX2_byteAt_0 : cX2_byteAt.data.toList.drop 0 = dktX2_byteAt_0 := by decide +kernel
theorem dksX2_byteAt_1 : cX2_byteAt.data.toList.drop 23 = dktX2_byteAt_1 := dk_seg dksX2_byteAt_0 23 rfl rfl
theorem dX2_byteAt_0 : decode cX2_byteAt 0 = .ok (.aload_n 0, 1) := dk_42 (dk_at dksX2_byteAt_0 0 rfl rfl)
theorem dX2_byteAt_1 : decode cX2_byteAt 1 = .ok (.getfield 10, 3) := dk_180 0 10 (dk_at dksX2_byteAt_0 1 rfl rfl)
theorem dX2_byteAt_4 : decode cX2_byteAt 4 = .ok (.iload_n 1, 1) := dk_27 (dk_at dksX2_byteAt_0 4 rfl rfl)
theorem dX2_byteAt_5 : decode cX2_byteAt 5 = .ok (.invokevirtual 170, 3) := dk_182 0 170 (dk_at dksX2_byteAt_0 5 rfl rfl)
theorem dX2_byteAt_8 : decode cX2_byteAt 8 = .ok (.ifCond .eq 14, 3) := dk_153 0 14 (dk_at dksX2_byteAt_0 8 rfl rfl)
theorem dX2_byteAt_11 : decode cX2_byteAt 11 = .ok (.aload_n 0, 1) := dk_42 (dk_at dksX2_byteAt_0 11 rfl rfl)
theorem dX2_byteAt_12 : decode cX2_byteAt 12 = .ok (.getfield 10, 3) := dk_180 0 10 (dk_at dksX2_byteAt_0 12 rfl rfl)
theorem dX2_byteAt_15 : decode cX2_byteAt 15 = .ok (.iload_n 1, 1) := dk_27 (dk_at dksX2_byteAt_0 15 rfl rfl)
theorem dX2_byteAt_16 : decode cX2_byteAt 16 = .ok (.invokevirtual 173, 3) := dk_182 0 173 (dk_at dksX2_byteAt_0 16 rfl rfl)
theorem dX2_byteAt_19 : decode cX2_byteAt 19 = .ok (.goto 6, 3) := dk_167 0 6 (dk_at dksX2_byteAt_0 19 rfl rfl)
theorem dX2_byteAt_22 : decode cX2_byteAt 22 = .ok (.iconst 0, 1) := dk_3 (dk_at dksX2_byteAt_0 22 rfl rfl)
theorem dX2_byteAt_23 : decode cX2_byteAt 23 = .ok (.newarray .byte, 2) := dk_188_8 (dk_at dksX2_byteAt_1 0 rfl rfl)
theorem dX2_byteAt_25 : decode cX2_byteAt 25 = .ok (.astore_n 3, 1) := dk_78 (dk_at dksX2_byteAt_1 2 rfl rfl)
theorem dX2_byteAt_26 : decode cX2_byteAt 26 = .ok (.aload_n 3, 1) := dk_45 (dk_at dksX2_byteAt_1 3 rfl rfl)
theorem dX2_byteAt_27 : decode cX2_byteAt 27 = .ok (.iload_n 2, 1) := dk_28 (dk_at dksX2_byteAt_1 4 rfl rfl)
theorem dX2_byteAt_28 : decode cX2_byteAt 28 = .ok (.baload, 1) := dk_51 (dk_at dksX2_byteAt_1 5 rfl rfl)
theorem dX2_byteAt_29 : decode cX2_byteAt 29 = .ok (.sipush 255, 3) := dk_17 0 255 (dk_at dksX2_byteAt_1 6 rfl rfl)
theorem dX2_byteAt_32 : decode cX2_byteAt 32 = .ok (.iand, 1) := dk_126 (dk_at dksX2_byteAt_1 9 rfl rfl)
theorem dX2_byteAt_33 : decode cX2_byteAt 33 = .ok (.ireturn, 1) := dk_172 (dk_at dksX2_byteAt_1 10 rfl rfl)
abbrev cX2_digest : ByteArray := prog_48_method_18_code
def yX2_digest : MethodName := ⟨RX2, "digest", "(II)I"⟩
def dkwX2_digest_1 : List UInt8 := [167, 0, 20, 42, 180, 0, 10, 27, 182, 0, 173, 16, 41, 28, 96, 51, 17, 0, 255, 126, 172]
abbrev dktX2_digest_1 : List UInt8 := dkwX2_digest_1 ++ []
def dkwX2_digest_0 : List UInt8 := [42, 180, 0, 10, 27, 182, 0, 170, 153, 0, 13, 28, 155, 0, 9, 28, 16, 32, 161, 0, 7, 2]
abbrev dktX2_digest_0 : List UInt8 := dkwX2_digest_0 ++ dktX2_digest_1
theorem dksX2_digest_0 : cX2_digest.data.toList.drop 0 = dktX2_digest_0 := by decide +kernel
theorem dksX2_digest_1 : cX2_digest.data.toList.drop 22 = dktX2_digest_1 := dk_seg dksX2_digest_0 22 rfl rfl
theorem dX2_digest_0 : decode cX2_digest 0 = .ok (.aload_n 0, 1) := dk_42 (dk_at dksX2_digest_0 0 rfl rfl)
theorem dX2_digest_1 : decode cX2_digest 1 = .ok (.getfield 10, 3) := dk_180 0 10 (dk_at dksX2_digest_0 1 rfl rfl)
theorem dX2_digest_4 : decode cX2_digest 4 = .ok (.iload_n 1, 1) := dk_27 (dk_at dksX2_digest_0 4 rfl rfl)
theorem dX2_digest_5 : decode cX2_digest 5 = .ok (.invokevirtual 170, 3) := dk_182 0 170 (dk_at dksX2_digest_0 5 rfl rfl)
theorem dX2_digest_8 : decode cX2_digest 8 = .ok (.ifCond .eq 13, 3) := dk_153 0 13 (dk_at dksX2_digest_0 8 rfl rfl)
theorem dX2_digest_11 : decode cX2_digest 11 = .ok (.iload_n 2, 1) := dk_28 (dk_at dksX2_digest_0 11 rfl rfl)
theorem dX2_digest_12 : decode cX2_digest 12 = .ok (.ifCond .lt 9, 3) := dk_155 0 9 (dk_at dksX2_digest_0 12 rfl rfl)
theorem dX2_digest_15 : decode cX2_digest 15 = .ok (.iload_n 2, 1) := dk_28 (dk_at dksX2_digest_0 15 rfl rfl)
theorem dX2_digest_16 : decode cX2_digest 16 = .ok (.bipush 32, 2) := dk_16 32 (dk_at dksX2_digest_0 16 rfl rfl)
theorem dX2_digest_18 : decode cX2_digest 18 = .ok (.if_icmp .lt 7, 3) := dk_161 0 7 (dk_at dksX2_digest_0 18 rfl rfl)
theorem dX2_digest_21 : decode cX2_digest 21 = .ok (.iconst (-1), 1) := dk_2 (dk_at dksX2_digest_0 21 rfl rfl)
theorem dX2_digest_22 : decode cX2_digest 22 = .ok (.goto 20, 3) := dk_167 0 20 (dk_at dksX2_digest_1 0 rfl rfl)
theorem dX2_digest_25 : decode cX2_digest 25 = .ok (.aload_n 0, 1) := dk_42 (dk_at dksX2_digest_1 3 rfl rfl)
theorem dX2_digest_26 : decode cX2_digest 26 = .ok (.getfield 10, 3) := dk_180 0 10 (dk_at dksX2_digest_1 4 rfl rfl)
theorem dX2_digest_29 : decode cX2_digest 29 = .ok (.iload_n 1, 1) := dk_27 (dk_at dksX2_digest_1 7 rfl rfl)
theorem dX2_digest_30 : decode cX2_digest 30 = .ok (.invokevirtual 173, 3) := dk_182 0 173 (dk_at dksX2_digest_1 8 rfl rfl)
theorem dX2_digest_33 : decode cX2_digest 33 = .ok (.bipush 41, 2) := dk_16 41 (dk_at dksX2_digest_1 11 rfl rfl)
theorem dX2_digest_35 : decode cX2_digest 35 = .ok (.iload_n 2, 1) := dk_28 (dk_at dksX2_digest_1 13 rfl rfl)
theorem dX2_digest_36 : decode cX2_digest 36 = .ok (.iadd, 1) := dk_96 (dk_at dksX2_digest_1 14 rfl rfl)
theorem dX2_digest_37 : decode cX2_digest 37 = .ok (.baload, 1) := dk_51 (dk_at dksX2_digest_1 15 rfl rfl)
theorem dX2_digest_38 : decode cX2_digest 38 = .ok (.sipush 255, 3) := dk_17 0 255 (dk_at dksX2_digest_1 16 rfl rfl)
theorem dX2_digest_41 : decode cX2_digest 41 = .ok (.iand, 1) := dk_126 (dk_at dksX2_digest_1 19 rfl rfl)
theorem dX2_digest_42 : decode cX2_digest 42 = .ok (.ireturn, 1) := dk_172 (dk_at dksX2_digest_1 20 rfl rfl)
abbrev cX2_root : ByteArray := prog_48_method_20_code
def yX2_root : MethodName := ⟨RX2, "root", "(II)I"⟩
def dkwX2_root_1 : List UInt8 := [167, 0, 16, 42, 180, 0, 10, 180, 0, 184, 28, 51, 17, 0, 255, 126, 172]
abbrev dktX2_root_1 : List UInt8 := dkwX2_root_1 ++ []
def dkwX2_root_0 : List UInt8 := [28, 155, 0, 20, 28, 16, 32, 162, 0, 14, 42, 180, 0, 10, 27, 182, 0, 181, 154, 0, 7, 2]
abbrev dktX2_root_0 : List UInt8 := dkwX2_root_0 ++ dktX2_root_1
theorem dksX2_root_0 : cX2_root.data.toList.drop 0 = dktX2_root_0 := by decide +kernel
theorem dksX2_root_1 : cX2_root.data.toList.drop 22 = dktX2_root_1 := dk_seg dksX2_root_0 22 rfl rfl
theorem dX2_root_0 : decode cX2_root 0 = .ok (.iload_n 2, 1) := dk_28 (dk_at dksX2_root_0 0 rfl rfl)
theorem dX2_root_1 : decode cX2_root 1 = .ok (.ifCond .lt 20, 3) := dk_155 0 20 (dk_at dksX2_root_0 1 rfl rfl)
theorem dX2_root_4 : decode cX2_root 4 = .ok (.iload_n 2, 1) := dk_28 (dk_at dksX2_root_0 4 rfl rfl)
theorem dX2_root_5 : decode cX2_root 5 = .ok (.bipush 32, 2) := dk_16 32 (dk_at dksX2_root_0 5 rfl rfl)
theorem dX2_root_7 : decode cX2_root 7 = .ok (.if_icmp .ge 14, 3) := dk_162 0 14 (dk_at dksX2_root_0 7 rfl rfl)
theorem dX2_root_10 : decode cX2_root 10 = .ok (.aload_n 0, 1) := dk_42 (dk_at dksX2_root_0 10 rfl rfl)
theorem dX2_root_11 : decode cX2_root 11 = .ok (.getfield 10, 3) := dk_180 0 10 (dk_at dksX2_root_0 11 rfl rfl)
theorem dX2_root_14 : decode cX2_root 14 = .ok (.iload_n 1, 1) := dk_27 (dk_at dksX2_root_0 14 rfl rfl)
theorem dX2_root_15 : decode cX2_root 15 = .ok (.invokevirtual 181, 3) := dk_182 0 181 (dk_at dksX2_root_0 15 rfl rfl)
theorem dX2_root_18 : decode cX2_root 18 = .ok (.ifCond .ne 7, 3) := dk_154 0 7 (dk_at dksX2_root_0 18 rfl rfl)
theorem dX2_root_21 : decode cX2_root 21 = .ok (.iconst (-1), 1) := dk_2 (dk_at dksX2_root_0 21 rfl rfl)
theorem dX2_root_22 : decode cX2_root 22 = .ok (.goto 16, 3) := dk_167 0 16 (dk_at dksX2_root_1 0 rfl rfl)
theorem dX2_root_25 : decode cX2_root 25 = .ok (.aload_n 0, 1) := dk_42 (dk_at dksX2_root_1 3 rfl rfl)
theorem dX2_root_26 : decode cX2_root 26 = .ok (.getfield 10, 3) := dk_180 0 10 (dk_at dksX2_root_1 4 rfl rfl)
theorem dX2_root_29 : decode cX2_root 29 = .ok (.getfield 184, 3) := dk_180 0 184 (dk_at dksX2_root_1 7 rfl rfl)
theorem dX2_root_32 : decode cX2_root 32 = .ok (.iload_n 2, 1) := dk_28 (dk_at dksX2_root_1 10 rfl rfl)
theorem dX2_root_33 : decode cX2_root 33 = .ok (.baload, 1) := dk_51 (dk_at dksX2_root_1 11 rfl rfl)
theorem dX2_root_34 : decode cX2_root 34 = .ok (.sipush 255, 3) := dk_17 0 255 (dk_at dksX2_root_1 12 rfl rfl)
theorem dX2_root_37 : decode cX2_root 37 = .ok (.iand, 1) := dk_126 (dk_at dksX2_root_1 15 rfl rfl)
theorem dX2_root_38 : decode cX2_root 38 = .ok (.ireturn, 1) := dk_172 (dk_at dksX2_root_1 16 rfl rfl)
theorem q394 : (Jvm.Cond.initialized "WasteHouse$TicketChain") ∈ lw_all := lw_g (lw_at lw_m1 2 rfl) rfl
theorem q515 : (Jvm.Cond.instantiable "WasteHouse$TicketChain" (7 : Nat)) ∈ lw_all := lw_g (lw_at lw_m1 123 rfl) rfl
theorem q517 : (Jvm.Cond.instanceMethod ({ cls := "WasteHouse$TicketChain", name := "<init>", desc := "()V" } : Jvm.MethodName)) ∈ lw_all := lw_g (lw_at lw_m1 125 rfl) rfl
theorem q518 : (Jvm.Cond.code ({ cls := "WasteHouse$TicketChain", name := "<init>", desc := "()V" } : Jvm.MethodName) prog_48_method_1_code (1 : Nat) (Option.none : Option Jvm.ClassFile.FieldType)) ∈ lw_all := lw_g (lw_at lw_m1 126 rfl) rfl
theorem q519 : (Jvm.Cond.methodLink "WasteHouse$TicketChain" (1 : Nat) ({ cls := "java/lang/Object", name := "<init>", desc := "()V" } : Jvm.MethodName)) ∈ lw_all := lw_g (lw_at lw_m1 127 rfl) rfl
theorem q520 : (Jvm.Cond.classLink "WasteHouse$TicketChain" (7 : Nat) "WasteHouse$TicketChain$Chain") ∈ lw_all := lw_g (lw_at lw_m1 128 rfl) rfl
theorem q522 : (Jvm.Cond.methodLinkNest "WasteHouse$TicketChain" (9 : Nat) ({ cls := "WasteHouse$TicketChain$Chain", name := "<init>", desc := "()V" } : Jvm.MethodName) "WasteHouse") ∈ lw_tbl := lw_at lw_m1 130 rfl
theorem q663 : (Jvm.Cond.fieldLinkNest "WasteHouse$TicketChain" (184 : Nat) "WasteHouse$TicketChain$Chain" "heap" "[B" "WasteHouse") ∈ lw_tbl := lw_at lw_m2 31 rfl
theorem q677 : (Jvm.Cond.classLink "WasteHouse$TicketChain" (16 : Nat) "java/util/ArrayList") ∈ lw_all := lw_g (lw_at lw_m2 45 rfl) rfl
theorem q678 : (Jvm.Cond.methodLink "WasteHouse$TicketChain" (18 : Nat) ({ cls := "java/util/ArrayList", name := "<init>", desc := "()V" } : Jvm.MethodName)) ∈ lw_all := lw_g (lw_at lw_m2 46 rfl) rfl
theorem q679 : (Jvm.Cond.classLink "WasteHouse$TicketChain" (26 : Nat) "java/util/TreeMap") ∈ lw_all := lw_g (lw_at lw_m2 47 rfl) rfl
theorem q680 : (Jvm.Cond.methodLink "WasteHouse$TicketChain" (28 : Nat) ({ cls := "java/util/TreeMap", name := "<init>", desc := "()V" } : Jvm.MethodName)) ∈ lw_all := lw_g (lw_at lw_m2 48 rfl) rfl
theorem q681 : (Jvm.Cond.stringRef "WasteHouse$TicketChain" (33 : Nat) "") ∈ lw_tbl := lw_at lw_m2 49 rfl
theorem q682 : (Jvm.Cond.fieldLink "WasteHouse$TicketChain" (10 : Nat) "WasteHouse$TicketChain" "chain" "LWasteHouse$TicketChain$Chain;") ∈ lw_all := lw_g (lw_at lw_m2 50 rfl) rfl
theorem q683 : (Jvm.Cond.fieldLink "WasteHouse$TicketChain" (19 : Nat) "WasteHouse$TicketChain" "tickets" "Ljava/util/ArrayList;") ∈ lw_all := lw_g (lw_at lw_m2 51 rfl) rfl
theorem q684 : (Jvm.Cond.fieldLink "WasteHouse$TicketChain" (23 : Nat) "WasteHouse$TicketChain" "gaps" "Ljava/util/ArrayList;") ∈ lw_all := lw_g (lw_at lw_m2 52 rfl) rfl
theorem q685 : (Jvm.Cond.fieldLink "WasteHouse$TicketChain" (29 : Nat) "WasteHouse$TicketChain" "tares" "Ljava/util/TreeMap;") ∈ lw_all := lw_g (lw_at lw_m2 53 rfl) rfl
theorem q686 : (Jvm.Cond.fieldLink "WasteHouse$TicketChain" (93 : Nat) "WasteHouse$TicketChain" "used" "I") ∈ lw_all := lw_g (lw_at lw_m2 54 rfl) rfl
theorem q687 : (Jvm.Cond.fieldLink "WasteHouse$TicketChain" (35 : Nat) "WasteHouse$TicketChain" "form" "Ljava/lang/String;") ∈ lw_all := lw_g (lw_at lw_m2 55 rfl) rfl
theorem q688 : (Jvm.Cond.fieldLink "WasteHouse$TicketChain" (39 : Nat) "WasteHouse$TicketChain" "formOf" "I") ∈ lw_all := lw_g (lw_at lw_m2 56 rfl) rfl
theorem q689 : (Jvm.Cond.laysFinal "WasteHouse$TicketChain" "WasteHouse$TicketChain" "chain" "LWasteHouse$TicketChain$Chain;") ∈ lw_all := lw_g (lw_at lw_m2 57 rfl) rfl
theorem q690 : (Jvm.Cond.soleField "WasteHouse$TicketChain" "chain") ∈ lw_all := lw_g (lw_at lw_m2 58 rfl) rfl
theorem q691 : (Jvm.Cond.laysFinal "WasteHouse$TicketChain" "WasteHouse$TicketChain" "tickets" "Ljava/util/ArrayList;") ∈ lw_all := lw_g (lw_at lw_m2 59 rfl) rfl
theorem q692 : (Jvm.Cond.soleField "WasteHouse$TicketChain" "tickets") ∈ lw_all := lw_g (lw_at lw_m2 60 rfl) rfl
theorem q693 : (Jvm.Cond.laysFinal "WasteHouse$TicketChain" "WasteHouse$TicketChain" "gaps" "Ljava/util/ArrayList;") ∈ lw_all := lw_g (lw_at lw_m2 61 rfl) rfl
theorem q694 : (Jvm.Cond.soleField "WasteHouse$TicketChain" "gaps") ∈ lw_all := lw_g (lw_at lw_m2 62 rfl) rfl
theorem q695 : (Jvm.Cond.laysFinal "WasteHouse$TicketChain" "WasteHouse$TicketChain" "tares" "Ljava/util/TreeMap;") ∈ lw_all := lw_g (lw_at lw_m2 63 rfl) rfl
theorem q696 : (Jvm.Cond.soleField "WasteHouse$TicketChain" "tares") ∈ lw_all := lw_g (lw_at lw_m2 64 rfl) rfl
theorem q697 : (Jvm.Cond.lays "WasteHouse$TicketChain" "WasteHouse$TicketChain" "used" "I") ∈ lw_all := lw_g (lw_at lw_m2 65 rfl) rfl
theorem q698 : (Jvm.Cond.soleField "WasteHouse$TicketChain" "used") ∈ lw_all := lw_g (lw_at lw_m2 66 rfl) rfl
theorem q699 : (Jvm.Cond.lays "WasteHouse$TicketChain" "WasteHouse$TicketChain" "form" "Ljava/lang/String;") ∈ lw_all := lw_g (lw_at lw_m2 67 rfl) rfl
theorem q700 : (Jvm.Cond.soleField "WasteHouse$TicketChain" "form") ∈ lw_all := lw_g (lw_at lw_m2 68 rfl) rfl
theorem q701 : (Jvm.Cond.lays "WasteHouse$TicketChain" "WasteHouse$TicketChain" "formOf" "I") ∈ lw_all := lw_g (lw_at lw_m2 69 rfl) rfl
theorem q702 : (Jvm.Cond.soleField "WasteHouse$TicketChain" "formOf") ∈ lw_all := lw_g (lw_at lw_m2 70 rfl) rfl
theorem q703 : (Jvm.Cond.superclass "WasteHouse$TicketChain" "java/lang/Object") ∈ lw_all := lw_g (lw_at lw_m2 71 rfl) rfl
theorem q2017 : (Jvm.Cond.selects "WasteHouse$TicketChain" ({ cls := "java/lang/Object", name := "getClass", desc := "()Ljava/lang/Class;" } : Jvm.MethodName) ({ cls := "java/lang/Object", name := "getClass", desc := "()Ljava/lang/Class;" } : Jvm.MethodName)) ∈ lw_all := lw_g (lw_at lw_m7 185 rfl) rfl
theorem q3127 : (Jvm.Cond.selects "WasteHouse$TicketChain" ({ cls := "java/lang/Object", name := "equals", desc := "(Ljava/lang/Object;)Z" } : Jvm.MethodName) ({ cls := "java/lang/Object", name := "equals", desc := "(Ljava/lang/Object;)Z" } : Jvm.MethodName)) ∈ lw_all := lw_g (lw_at lw_m12 95 rfl) rfl
theorem q3645 : (Jvm.Cond.selects "WasteHouse$TicketChain" ({ cls := "java/lang/Object", name := "hashCode", desc := "()I" } : Jvm.MethodName) ({ cls := "java/lang/Object", name := "hashCode", desc := "()I" } : Jvm.MethodName)) ∈ lw_all := lw_g (lw_at lw_m14 133 rfl) rfl
theorem q5063 : (Jvm.Cond.privateMethod ({ cls := "WasteHouse$TicketChain", name := "tareOf", desc := "(II)J" } : Jvm.MethodName)) ∈ lw_tbl := lw_at lw_m20 111 rfl
theorem q5064 : (Jvm.Cond.instanceMethod ({ cls := "WasteHouse$TicketChain", name := "tareOf", desc := "(II)J" } : Jvm.MethodName)) ∈ lw_all := lw_g (lw_at lw_m20 112 rfl) rfl
theorem q5065 : (Jvm.Cond.code ({ cls := "WasteHouse$TicketChain", name := "tareOf", desc := "(II)J" } : Jvm.MethodName) prog_48_method_4_code (5 : Nat) (Option.some Jvm.ClassFile.FieldType.long)) ∈ lw_all := lw_g (lw_at lw_m20 113 rfl) rfl
theorem q5066 : (Jvm.Cond.methodLink "WasteHouse$TicketChain" (54 : Nat) ({ cls := "java/lang/Integer", name := "valueOf", desc := "(I)Ljava/lang/Integer;" } : Jvm.MethodName)) ∈ lw_all := lw_g (lw_at lw_m20 114 rfl) rfl
theorem q5067 : (Jvm.Cond.methodLink "WasteHouse$TicketChain" (60 : Nat) ({ cls := "java/util/TreeMap", name := "get", desc := "(Ljava/lang/Object;)Ljava/lang/Object;" } : Jvm.MethodName)) ∈ lw_all := lw_g (lw_at lw_m20 115 rfl) rfl
theorem q5068 : (Jvm.Cond.methodLink "WasteHouse$TicketChain" (73 : Nat) ({ cls := "java/util/TreeMap", name := "floorEntry", desc := "(Ljava/lang/Object;)Ljava/util/Map$Entry;" } : Jvm.MethodName)) ∈ lw_all := lw_g (lw_at lw_m20 116 rfl) rfl
theorem q5096 : (Jvm.Cond.constantLong "WasteHouse$TicketChain" (77 : Nat) (-1 : Int64)) ∈ lw_all := lw_g (lw_at lw_m20 144 rfl) rfl
theorem q5097 : (Jvm.Cond.interfaceEntry "WasteHouse$TicketChain" (79 : Nat)) ∈ lw_tbl := lw_at lw_m20 145 rfl
theorem q5098 : (Jvm.Cond.methodLink "WasteHouse$TicketChain" (79 : Nat) ({ cls := "java/util/Map$Entry", name := "getValue", desc := "()Ljava/lang/Object;" } : Jvm.MethodName)) ∈ lw_all := lw_g (lw_at lw_m20 146 rfl) rfl
theorem q5099 : (Jvm.Cond.classLink "WasteHouse$TicketChain" (69 : Nat) "java/lang/Long") ∈ lw_all := lw_g (lw_at lw_m20 147 rfl) rfl
theorem q5100 : (Jvm.Cond.methodLink "WasteHouse$TicketChain" (85 : Nat) ({ cls := "java/lang/Long", name := "longValue", desc := "()J" } : Jvm.MethodName)) ∈ lw_all := lw_g (lw_at lw_m20 148 rfl) rfl
theorem q5103 : (Jvm.Cond.instanceMethod ({ cls := "WasteHouse$TicketChain", name := "ticket", desc := "(IIJJJI)I" } : Jvm.MethodName)) ∈ lw_all := lw_g (lw_at lw_m20 151 rfl) rfl
theorem q5104 : (Jvm.Cond.selects "WasteHouse$TicketChain" ({ cls := "WasteHouse$TicketChain", name := "ticket", desc := "(IIJJJI)I" } : Jvm.MethodName) ({ cls := "WasteHouse$TicketChain", name := "ticket", desc := "(IIJJJI)I" } : Jvm.MethodName)) ∈ lw_all := lw_g (lw_at lw_m20 152 rfl) rfl
theorem q5105 : (Jvm.Cond.code ({ cls := "WasteHouse$TicketChain", name := "ticket", desc := "(IIJJJI)I" } : Jvm.MethodName) prog_48_method_5_code (14 : Nat) (Option.some Jvm.ClassFile.FieldType.int)) ∈ lw_all := lw_g (lw_at lw_m20 153 rfl) rfl
theorem q5106 : (Jvm.Cond.methodLink "WasteHouse$TicketChain" (50 : Nat) ({ cls := "WasteHouse$TicketChain$Ticket", name := "fits", desc := "(IJ)Z" } : Jvm.MethodName)) ∈ lw_all := lw_g (lw_at lw_m20 154 rfl) rfl
theorem q5114 : (Jvm.Cond.methodLink "WasteHouse$TicketChain" (89 : Nat) ({ cls := "WasteHouse$TicketChain$Chain", name := "isFull", desc := "()Z" } : Jvm.MethodName)) ∈ lw_all := lw_g (lw_at lw_m20 162 rfl) rfl
theorem q5119 : (Jvm.Cond.constantLong "WasteHouse$TicketChain" (96 : Nat) (86400 : Int64)) ∈ lw_all := lw_g (lw_at lw_m20 167 rfl) rfl
theorem q5120 : (Jvm.Cond.methodLink "WasteHouse$TicketChain" (98 : Nat) ({ cls := "WasteHouse$TicketChain", name := "tareOf", desc := "(II)J" } : Jvm.MethodName)) ∈ lw_all := lw_g (lw_at lw_m20 168 rfl) rfl
theorem q5121 : (Jvm.Cond.methodLink "WasteHouse$TicketChain" (102 : Nat) ({ cls := "java/util/ArrayList", name := "add", desc := "(Ljava/lang/Object;)Z" } : Jvm.MethodName)) ∈ lw_all := lw_g (lw_at lw_m20 169 rfl) rfl
theorem q5122 : (Jvm.Cond.classLink "WasteHouse$TicketChain" (48 : Nat) "WasteHouse$TicketChain$Ticket") ∈ lw_all := lw_g (lw_at lw_m20 170 rfl) rfl
theorem q5124 : (Jvm.Cond.methodLink "WasteHouse$TicketChain" (106 : Nat) ({ cls := "WasteHouse$TicketChain$Ticket", name := "<init>", desc := "(I)V" } : Jvm.MethodName)) ∈ lw_all := lw_g (lw_at lw_m20 172 rfl) rfl
theorem q5130 : (Jvm.Cond.fieldLink "WasteHouse$TicketChain" (138 : Nat) "WasteHouse$TicketChain$Ticket" "number" "I") ∈ lw_all := lw_g (lw_at lw_m20 178 rfl) rfl
theorem q5146 : (Jvm.Cond.methodLink "WasteHouse$TicketChain" (109 : Nat) ({ cls := "WasteHouse$TicketChain$Ticket", name := "set", desc := "(IJ)V" } : Jvm.MethodName)) ∈ lw_all := lw_g (lw_at lw_m20 194 rfl) rfl
theorem q5150 : (Jvm.Cond.methodLink "WasteHouse$TicketChain" (113 : Nat) ({ cls := "WasteHouse$TicketChain$Chain", name := "ticket", desc := "(LWasteHouse$TicketChain$Ticket;)I" } : Jvm.MethodName)) ∈ lw_all := lw_g (lw_at lw_m20 198 rfl) rfl
theorem q5218 : (Jvm.Cond.methodLink "WasteHouse$TicketChain" (43 : Nat) ({ cls := "java/util/ArrayList", name := "size", desc := "()I" } : Jvm.MethodName)) ∈ lw_all := lw_g (lw_at lw_m21 26 rfl) rfl
theorem q5612 : (Jvm.Cond.instanceMethod ({ cls := "WasteHouse$TicketChain", name := "share", desc := "(II)J" } : Jvm.MethodName)) ∈ lw_all := lw_g (lw_at lw_m22 180 rfl) rfl
theorem q5613 : (Jvm.Cond.selects "WasteHouse$TicketChain" ({ cls := "WasteHouse$TicketChain", name := "share", desc := "(II)J" } : Jvm.MethodName) ({ cls := "WasteHouse$TicketChain", name := "share", desc := "(II)J" } : Jvm.MethodName)) ∈ lw_all := lw_g (lw_at lw_m22 181 rfl) rfl
theorem q5614 : (Jvm.Cond.code ({ cls := "WasteHouse$TicketChain", name := "share", desc := "(II)J" } : Jvm.MethodName) prog_48_method_14_code (3 : Nat) (Option.some Jvm.ClassFile.FieldType.long)) ∈ lw_all := lw_g (lw_at lw_m22 182 rfl) rfl
theorem q5615 : (Jvm.Cond.methodLink "WasteHouse$TicketChain" (117 : Nat) ({ cls := "WasteHouse$TicketChain", name := "isTicket", desc := "(I)Z" } : Jvm.MethodName)) ∈ lw_all := lw_g (lw_at lw_m22 183 rfl) rfl
theorem q5616 : (Jvm.Cond.privateMethod ({ cls := "WasteHouse$TicketChain", name := "isTicket", desc := "(I)Z" } : Jvm.MethodName)) ∈ lw_tbl := lw_at lw_m22 184 rfl
theorem q5617 : (Jvm.Cond.instanceMethod ({ cls := "WasteHouse$TicketChain", name := "isTicket", desc := "(I)Z" } : Jvm.MethodName)) ∈ lw_all := lw_g (lw_at lw_m22 185 rfl) rfl
theorem q5618 : (Jvm.Cond.code ({ cls := "WasteHouse$TicketChain", name := "isTicket", desc := "(I)Z" } : Jvm.MethodName) prog_48_method_2_code (2 : Nat) (Option.some Jvm.ClassFile.FieldType.boolean)) ∈ lw_all := lw_g (lw_at lw_m22 186 rfl) rfl
theorem q5619 : (Jvm.Cond.methodLink "WasteHouse$TicketChain" (121 : Nat) ({ cls := "java/util/ArrayList", name := "get", desc := "(I)Ljava/lang/Object;" } : Jvm.MethodName)) ∈ lw_all := lw_g (lw_at lw_m22 187 rfl) rfl
theorem q5620 : (Jvm.Cond.methodLink "WasteHouse$TicketChain" (152 : Nat) ({ cls := "WasteHouse$TicketChain$Ticket", name := "divide", desc := "()Z" } : Jvm.MethodName)) ∈ lw_all := lw_g (lw_at lw_m22 188 rfl) rfl
theorem q5629 : (Jvm.Cond.methodLink "WasteHouse$TicketChain" (155 : Nat) ({ cls := "WasteHouse$TicketChain$Ticket", name := "share", desc := "(I)J" } : Jvm.MethodName)) ∈ lw_all := lw_g (lw_at lw_m22 197 rfl) rfl
theorem q5653 : (Jvm.Cond.instanceMethod ({ cls := "WasteHouse$TicketChain", name := "check", desc := "(I)I" } : Jvm.MethodName)) ∈ lw_all := lw_g (lw_at lw_m22 221 rfl) rfl
theorem q5654 : (Jvm.Cond.selects "WasteHouse$TicketChain" ({ cls := "WasteHouse$TicketChain", name := "check", desc := "(I)I" } : Jvm.MethodName) ({ cls := "WasteHouse$TicketChain", name := "check", desc := "(I)I" } : Jvm.MethodName)) ∈ lw_all := lw_g (lw_at lw_m22 222 rfl) rfl
theorem q5655 : (Jvm.Cond.code ({ cls := "WasteHouse$TicketChain", name := "check", desc := "(I)I" } : Jvm.MethodName) prog_48_method_19_code (2 : Nat) (Option.some Jvm.ClassFile.FieldType.int)) ∈ lw_all := lw_g (lw_at lw_m22 223 rfl) rfl
theorem q5656 : (Jvm.Cond.methodLink "WasteHouse$TicketChain" (144 : Nat) ({ cls := "WasteHouse$TicketChain$Chain", name := "count", desc := "()I" } : Jvm.MethodName)) ∈ lw_all := lw_g (lw_at lw_m22 224 rfl) rfl
theorem q5660 : (Jvm.Cond.methodLink "WasteHouse$TicketChain" (177 : Nat) ({ cls := "WasteHouse$TicketChain$Chain", name := "check", desc := "(I)I" } : Jvm.MethodName)) ∈ lw_all := lw_g (lw_at lw_m22 228 rfl) rfl
theorem q6467 : (Jvm.Cond.instanceMethod ({ cls := "WasteHouse$TicketChain", name := "follows", desc := "(IIJ)Z" } : Jvm.MethodName)) ∈ lw_all := lw_g (lw_at lw_m26 75 rfl) rfl
theorem q6468 : (Jvm.Cond.selects "WasteHouse$TicketChain" ({ cls := "WasteHouse$TicketChain", name := "follows", desc := "(IIJ)Z" } : Jvm.MethodName) ({ cls := "WasteHouse$TicketChain", name := "follows", desc := "(IIJ)Z" } : Jvm.MethodName)) ∈ lw_all := lw_g (lw_at lw_m26 76 rfl) rfl
theorem q6469 : (Jvm.Cond.code ({ cls := "WasteHouse$TicketChain", name := "follows", desc := "(IIJ)Z" } : Jvm.MethodName) prog_48_method_3_code (6 : Nat) (Option.some Jvm.ClassFile.FieldType.boolean)) ∈ lw_all := lw_g (lw_at lw_m26 77 rfl) rfl
theorem q6470 : (Jvm.Cond.constant "WasteHouse$TicketChain" (47 : Nat) (100000 : Int32)) ∈ lw_all := lw_g (lw_at lw_m26 78 rfl) rfl
theorem q6471 : (Jvm.Cond.methodLink "WasteHouse$TicketChain" (64 : Nat) ({ cls := "java/util/TreeMap", name := "put", desc := "(Ljava/lang/Object;Ljava/lang/Object;)Ljava/lang/Object;" } : Jvm.MethodName)) ∈ lw_all := lw_g (lw_at lw_m26 79 rfl) rfl
theorem q6472 : (Jvm.Cond.methodLink "WasteHouse$TicketChain" (68 : Nat) ({ cls := "java/lang/Long", name := "valueOf", desc := "(J)Ljava/lang/Long;" } : Jvm.MethodName)) ∈ lw_all := lw_g (lw_at lw_m26 80 rfl) rfl
theorem q6477 : (Jvm.Cond.instanceMethod ({ cls := "WasteHouse$TicketChain", name := "correct", desc := "(IIJI)I" } : Jvm.MethodName)) ∈ lw_all := lw_g (lw_at lw_m26 85 rfl) rfl
theorem q6478 : (Jvm.Cond.selects "WasteHouse$TicketChain" ({ cls := "WasteHouse$TicketChain", name := "correct", desc := "(IIJI)I" } : Jvm.MethodName) ({ cls := "WasteHouse$TicketChain", name := "correct", desc := "(IIJI)I" } : Jvm.MethodName)) ∈ lw_all := lw_g (lw_at lw_m26 86 rfl) rfl
theorem q6479 : (Jvm.Cond.code ({ cls := "WasteHouse$TicketChain", name := "correct", desc := "(IIJI)I" } : Jvm.MethodName) prog_48_method_6_code (9 : Nat) (Option.some Jvm.ClassFile.FieldType.int)) ∈ lw_all := lw_g (lw_at lw_m26 87 rfl) rfl
theorem q6480 : (Jvm.Cond.methodLink "WasteHouse$TicketChain" (124 : Nat) ({ cls := "WasteHouse$TicketChain$Ticket", name := "get", desc := "(I)J" } : Jvm.MethodName)) ∈ lw_all := lw_g (lw_at lw_m26 88 rfl) rfl
theorem q6481 : (Jvm.Cond.methodLink "WasteHouse$TicketChain" (127 : Nat) ({ cls := "WasteHouse$TicketChain$Ticket", name := "isVoid", desc := "()Z" } : Jvm.MethodName)) ∈ lw_all := lw_g (lw_at lw_m26 89 rfl) rfl
theorem q6482 : (Jvm.Cond.methodLink "WasteHouse$TicketChain" (130 : Nat) ({ cls := "WasteHouse$TicketChain$Chain", name := "correction", desc := "(LWasteHouse$TicketChain$Ticket;IJI)I" } : Jvm.MethodName)) ∈ lw_all := lw_g (lw_at lw_m26 90 rfl) rfl
theorem q6487 : (Jvm.Cond.instanceMethod ({ cls := "WasteHouse$TicketChain", name := "voids", desc := "(II)I" } : Jvm.MethodName)) ∈ lw_all := lw_g (lw_at lw_m26 95 rfl) rfl
theorem q6488 : (Jvm.Cond.selects "WasteHouse$TicketChain" ({ cls := "WasteHouse$TicketChain", name := "voids", desc := "(II)I" } : Jvm.MethodName) ({ cls := "WasteHouse$TicketChain", name := "voids", desc := "(II)I" } : Jvm.MethodName)) ∈ lw_all := lw_g (lw_at lw_m26 96 rfl) rfl
theorem q6489 : (Jvm.Cond.code ({ cls := "WasteHouse$TicketChain", name := "voids", desc := "(II)I" } : Jvm.MethodName) prog_48_method_7_code (4 : Nat) (Option.some Jvm.ClassFile.FieldType.int)) ∈ lw_all := lw_g (lw_at lw_m26 97 rfl) rfl
theorem q6490 : (Jvm.Cond.methodLink "WasteHouse$TicketChain" (134 : Nat) ({ cls := "WasteHouse$TicketChain$Chain", name := "makeVoid", desc := "(LWasteHouse$TicketChain$Ticket;I)I" } : Jvm.MethodName)) ∈ lw_all := lw_g (lw_at lw_m26 98 rfl) rfl
theorem q6495 : (Jvm.Cond.instanceMethod ({ cls := "WasteHouse$TicketChain", name := "at", desc := "(II)J" } : Jvm.MethodName)) ∈ lw_all := lw_g (lw_at lw_m26 103 rfl) rfl
theorem q6496 : (Jvm.Cond.selects "WasteHouse$TicketChain" ({ cls := "WasteHouse$TicketChain", name := "at", desc := "(II)J" } : Jvm.MethodName) ({ cls := "WasteHouse$TicketChain", name := "at", desc := "(II)J" } : Jvm.MethodName)) ∈ lw_all := lw_g (lw_at lw_m26 104 rfl) rfl
theorem q6497 : (Jvm.Cond.code ({ cls := "WasteHouse$TicketChain", name := "at", desc := "(II)J" } : Jvm.MethodName) prog_48_method_8_code (3 : Nat) (Option.some Jvm.ClassFile.FieldType.long)) ∈ lw_all := lw_g (lw_at lw_m26 105 rfl) rfl
theorem q6499 : (Jvm.Cond.instanceMethod ({ cls := "WasteHouse$TicketChain", name := "number", desc := "(I)I" } : Jvm.MethodName)) ∈ lw_all := lw_g (lw_at lw_m26 107 rfl) rfl
theorem q6500 : (Jvm.Cond.selects "WasteHouse$TicketChain" ({ cls := "WasteHouse$TicketChain", name := "number", desc := "(I)I" } : Jvm.MethodName) ({ cls := "WasteHouse$TicketChain", name := "number", desc := "(I)I" } : Jvm.MethodName)) ∈ lw_all := lw_g (lw_at lw_m26 108 rfl) rfl
theorem q6501 : (Jvm.Cond.code ({ cls := "WasteHouse$TicketChain", name := "number", desc := "(I)I" } : Jvm.MethodName) prog_48_method_9_code (2 : Nat) (Option.some Jvm.ClassFile.FieldType.int)) ∈ lw_all := lw_g (lw_at lw_m26 109 rfl) rfl
theorem q6503 : (Jvm.Cond.instanceMethod ({ cls := "WasteHouse$TicketChain", name := "gap", desc := "(I)I" } : Jvm.MethodName)) ∈ lw_all := lw_g (lw_at lw_m26 111 rfl) rfl
theorem q6504 : (Jvm.Cond.selects "WasteHouse$TicketChain" ({ cls := "WasteHouse$TicketChain", name := "gap", desc := "(I)I" } : Jvm.MethodName) ({ cls := "WasteHouse$TicketChain", name := "gap", desc := "(I)I" } : Jvm.MethodName)) ∈ lw_all := lw_g (lw_at lw_m26 112 rfl) rfl
theorem q6505 : (Jvm.Cond.code ({ cls := "WasteHouse$TicketChain", name := "gap", desc := "(I)I" } : Jvm.MethodName) prog_48_method_10_code (2 : Nat) (Option.some Jvm.ClassFile.FieldType.int)) ∈ lw_all := lw_g (lw_at lw_m26 113 rfl) rfl
theorem q6506 : (Jvm.Cond.classLink "WasteHouse$TicketChain" (55 : Nat) "java/lang/Integer") ∈ lw_all := lw_g (lw_at lw_m26 114 rfl) rfl
theorem q6507 : (Jvm.Cond.methodLink "WasteHouse$TicketChain" (141 : Nat) ({ cls := "java/lang/Integer", name := "intValue", desc := "()I" } : Jvm.MethodName)) ∈ lw_all := lw_g (lw_at lw_m26 115 rfl) rfl
theorem q6509 : (Jvm.Cond.instanceMethod ({ cls := "WasteHouse$TicketChain", name := "rows", desc := "()I" } : Jvm.MethodName)) ∈ lw_all := lw_g (lw_at lw_m26 117 rfl) rfl
theorem q6510 : (Jvm.Cond.selects "WasteHouse$TicketChain" ({ cls := "WasteHouse$TicketChain", name := "rows", desc := "()I" } : Jvm.MethodName) ({ cls := "WasteHouse$TicketChain", name := "rows", desc := "()I" } : Jvm.MethodName)) ∈ lw_all := lw_g (lw_at lw_m26 118 rfl) rfl
theorem q6511 : (Jvm.Cond.code ({ cls := "WasteHouse$TicketChain", name := "rows", desc := "()I" } : Jvm.MethodName) prog_48_method_11_code (1 : Nat) (Option.some Jvm.ClassFile.FieldType.int)) ∈ lw_all := lw_g (lw_at lw_m26 119 rfl) rfl
theorem q6513 : (Jvm.Cond.instanceMethod ({ cls := "WasteHouse$TicketChain", name := "made", desc := "()I" } : Jvm.MethodName)) ∈ lw_all := lw_g (lw_at lw_m26 121 rfl) rfl
theorem q6514 : (Jvm.Cond.selects "WasteHouse$TicketChain" ({ cls := "WasteHouse$TicketChain", name := "made", desc := "()I" } : Jvm.MethodName) ({ cls := "WasteHouse$TicketChain", name := "made", desc := "()I" } : Jvm.MethodName)) ∈ lw_all := lw_g (lw_at lw_m26 122 rfl) rfl
theorem q6515 : (Jvm.Cond.code ({ cls := "WasteHouse$TicketChain", name := "made", desc := "()I" } : Jvm.MethodName) prog_48_method_12_code (1 : Nat) (Option.some Jvm.ClassFile.FieldType.int)) ∈ lw_all := lw_g (lw_at lw_m26 123 rfl) rfl
theorem q6517 : (Jvm.Cond.instanceMethod ({ cls := "WasteHouse$TicketChain", name := "split", desc := "(IIJ)Z" } : Jvm.MethodName)) ∈ lw_all := lw_g (lw_at lw_m26 125 rfl) rfl
theorem q6518 : (Jvm.Cond.selects "WasteHouse$TicketChain" ({ cls := "WasteHouse$TicketChain", name := "split", desc := "(IIJ)Z" } : Jvm.MethodName) ({ cls := "WasteHouse$TicketChain", name := "split", desc := "(IIJ)Z" } : Jvm.MethodName)) ∈ lw_all := lw_g (lw_at lw_m26 126 rfl) rfl
theorem q6519 : (Jvm.Cond.code ({ cls := "WasteHouse$TicketChain", name := "split", desc := "(IIJ)Z" } : Jvm.MethodName) prog_48_method_13_code (5 : Nat) (Option.some Jvm.ClassFile.FieldType.boolean)) ∈ lw_all := lw_g (lw_at lw_m26 127 rfl) rfl
theorem q6520 : (Jvm.Cond.constantLong "WasteHouse$TicketChain" (147 : Nat) (1000000 : Int64)) ∈ lw_all := lw_g (lw_at lw_m26 128 rfl) rfl
theorem q6521 : (Jvm.Cond.methodLink "WasteHouse$TicketChain" (149 : Nat) ({ cls := "WasteHouse$TicketChain$Ticket", name := "part", desc := "(IJ)V" } : Jvm.MethodName)) ∈ lw_all := lw_g (lw_at lw_m26 129 rfl) rfl
theorem q6527 : (Jvm.Cond.instanceMethod ({ cls := "WasteHouse$TicketChain", name := "print", desc := "(II)I" } : Jvm.MethodName)) ∈ lw_all := lw_g (lw_at lw_m26 135 rfl) rfl
theorem q6528 : (Jvm.Cond.selects "WasteHouse$TicketChain" ({ cls := "WasteHouse$TicketChain", name := "print", desc := "(II)I" } : Jvm.MethodName) ({ cls := "WasteHouse$TicketChain", name := "print", desc := "(II)I" } : Jvm.MethodName)) ∈ lw_all := lw_g (lw_at lw_m26 136 rfl) rfl
theorem q6529 : (Jvm.Cond.code ({ cls := "WasteHouse$TicketChain", name := "print", desc := "(II)I" } : Jvm.MethodName) prog_48_method_15_code (3 : Nat) (Option.some Jvm.ClassFile.FieldType.int)) ∈ lw_all := lw_g (lw_at lw_m26 137 rfl) rfl
theorem q6530 : (Jvm.Cond.methodLink "WasteHouse$TicketChain" (158 : Nat) ({ cls := "WasteHouse$TicketChain$Ticket", name := "form", desc := "()Ljava/lang/String;" } : Jvm.MethodName)) ∈ lw_all := lw_g (lw_at lw_m26 138 rfl) rfl
theorem q6567 : (Jvm.Cond.methodLink "WasteHouse$TicketChain" (161 : Nat) ({ cls := "java/lang/String", name := "length", desc := "()I" } : Jvm.MethodName)) ∈ lw_all := lw_g (lw_at lw_m26 175 rfl) rfl
theorem q6568 : (Jvm.Cond.methodLink "WasteHouse$TicketChain" (166 : Nat) ({ cls := "java/lang/String", name := "charAt", desc := "(I)C" } : Jvm.MethodName)) ∈ lw_all := lw_g (lw_at lw_m26 176 rfl) rfl
theorem q6570 : (Jvm.Cond.instanceMethod ({ cls := "WasteHouse$TicketChain", name := "poke", desc := "(III)Z" } : Jvm.MethodName)) ∈ lw_all := lw_g (lw_at lw_m26 178 rfl) rfl
theorem q6571 : (Jvm.Cond.selects "WasteHouse$TicketChain" ({ cls := "WasteHouse$TicketChain", name := "poke", desc := "(III)Z" } : Jvm.MethodName) ({ cls := "WasteHouse$TicketChain", name := "poke", desc := "(III)Z" } : Jvm.MethodName)) ∈ lw_all := lw_g (lw_at lw_m26 179 rfl) rfl
theorem q6572 : (Jvm.Cond.code ({ cls := "WasteHouse$TicketChain", name := "poke", desc := "(III)Z" } : Jvm.MethodName) prog_48_method_16_code (4 : Nat) (Option.some Jvm.ClassFile.FieldType.boolean)) ∈ lw_all := lw_g (lw_at lw_m26 180 rfl) rfl
theorem q6573 : (Jvm.Cond.methodLink "WasteHouse$TicketChain" (170 : Nat) ({ cls := "WasteHouse$TicketChain$Chain", name := "isRow", desc := "(I)Z" } : Jvm.MethodName)) ∈ lw_all := lw_g (lw_at lw_m26 181 rfl) rfl
theorem q6577 : (Jvm.Cond.methodLink "WasteHouse$TicketChain" (173 : Nat) ({ cls := "WasteHouse$TicketChain$Chain", name := "row", desc := "(I)[B" } : Jvm.MethodName)) ∈ lw_all := lw_g (lw_at lw_m26 185 rfl) rfl
theorem q6582 : (Jvm.Cond.instanceMethod ({ cls := "WasteHouse$TicketChain", name := "byteAt", desc := "(II)I" } : Jvm.MethodName)) ∈ lw_all := lw_g (lw_at lw_m26 190 rfl) rfl
theorem q6583 : (Jvm.Cond.selects "WasteHouse$TicketChain" ({ cls := "WasteHouse$TicketChain", name := "byteAt", desc := "(II)I" } : Jvm.MethodName) ({ cls := "WasteHouse$TicketChain", name := "byteAt", desc := "(II)I" } : Jvm.MethodName)) ∈ lw_all := lw_g (lw_at lw_m26 191 rfl) rfl
theorem q6584 : (Jvm.Cond.code ({ cls := "WasteHouse$TicketChain", name := "byteAt", desc := "(II)I" } : Jvm.MethodName) prog_48_method_17_code (4 : Nat) (Option.some Jvm.ClassFile.FieldType.int)) ∈ lw_all := lw_g (lw_at lw_m26 192 rfl) rfl
theorem q6586 : (Jvm.Cond.instanceMethod ({ cls := "WasteHouse$TicketChain", name := "digest", desc := "(II)I" } : Jvm.MethodName)) ∈ lw_all := lw_g (lw_at lw_m26 194 rfl) rfl
theorem q6587 : (Jvm.Cond.selects "WasteHouse$TicketChain" ({ cls := "WasteHouse$TicketChain", name := "digest", desc := "(II)I" } : Jvm.MethodName) ({ cls := "WasteHouse$TicketChain", name := "digest", desc := "(II)I" } : Jvm.MethodName)) ∈ lw_all := lw_g (lw_at lw_m26 195 rfl) rfl
theorem q6588 : (Jvm.Cond.code ({ cls := "WasteHouse$TicketChain", name := "digest", desc := "(II)I" } : Jvm.MethodName) prog_48_method_18_code (3 : Nat) (Option.some Jvm.ClassFile.FieldType.int)) ∈ lw_all := lw_g (lw_at lw_m26 196 rfl) rfl
theorem q6591 : (Jvm.Cond.instanceMethod ({ cls := "WasteHouse$TicketChain", name := "root", desc := "(II)I" } : Jvm.MethodName)) ∈ lw_all := lw_g (lw_at lw_m26 199 rfl) rfl
theorem q6592 : (Jvm.Cond.selects "WasteHouse$TicketChain" ({ cls := "WasteHouse$TicketChain", name := "root", desc := "(II)I" } : Jvm.MethodName) ({ cls := "WasteHouse$TicketChain", name := "root", desc := "(II)I" } : Jvm.MethodName)) ∈ lw_all := lw_g (lw_at lw_m26 200 rfl) rfl
theorem q6593 : (Jvm.Cond.code ({ cls := "WasteHouse$TicketChain", name := "root", desc := "(II)I" } : Jvm.MethodName) prog_48_method_20_code (3 : Nat) (Option.some Jvm.ClassFile.FieldType.int)) ∈ lw_all := lw_g (lw_at lw_m26 201 rfl) rfl
theorem q6594 : (Jvm.Cond.methodLink "WasteHouse$TicketChain" (181 : Nat) ({ cls := "WasteHouse$TicketChain$Chain", name := "root", desc := "(I)Z" } : Jvm.MethodName)) ∈ lw_all := lw_g (lw_at lw_m26 202 rfl) rfl
theorem q9631 : (Jvm.Cond.castable "WasteHouse$TicketChain" "java/lang/Object") ∈ lw_tbl := lw_at lw_m39 119 rfl
theorem in_X2 : ∀ w ∈ wsX20, w ∈ lw_all := lw_in wsX20 [689, 691, 693, 695, 697, 699, 701] (by decide +kernel) (by decide +kernel)
