/-! WasteHouse$TicketChain$Chain -/
set_option maxRecDepth 100000
def RX3 : String := "WasteHouse$TicketChain$Chain"
def TX3 : u_T := fun k => match k with
  | 0 => ("WasteHouse$TicketChain$Chain", "sum", "LWasteHouse$TicketChain$Sum;", true)
  | 1 => ("WasteHouse$TicketChain$Chain", "writer", "LWasteHouse$TicketChain$Writer;", true)
  | 2 => ("WasteHouse$TicketChain$Chain", "rows", "Ljava/util/ArrayList;", true)
  | 3 => ("WasteHouse$TicketChain$Chain", "days", "Ljava/util/TreeMap;", true)
  | 4 => ("WasteHouse$TicketChain$Chain", "due", "[B", true)
  | _ => ("WasteHouse$TicketChain$Chain", "heap", "[B", true)
def tyX3 : Nat → FieldType := fun k => match k with
  | 0 => .object "WasteHouse$TicketChain$Sum"
  | 1 => .object "WasteHouse$TicketChain$Writer"
  | 2 => .object "java/util/ArrayList"
  | 3 => .object "java/util/TreeMap"
  | 4 => .array .byte
  | _ => .array .byte
abbrev wsX30 : List Cond := u_ws RX3 TX3 6
theorem nmX3 : ∀ a, a < 6 → ∀ b, b < 6 → a ≠ b → (TX3 a).2.1 ≠ (TX3 b).2.1 := by decide +kernel
theorem tyX3_ok : ∀ k, k < 6 → parseFieldDescriptor (TX3 k).2.2.1 = some (tyX3 k) := by decide +kernel
abbrev cX3_init : ByteArray := prog_49_method_1_code
def yX3_init : MethodName := ⟨RX3, "<init>", "()V"⟩
def dkwX3_init_3 : List UInt8 := [181, 0, 48, 177]
abbrev dktX3_init_3 : List UInt8 := dkwX3_init_3 ++ []
def dkwX3_init_2 : List UInt8 := [187, 0, 37, 89, 183, 0, 39, 181, 0, 40, 42, 16, 32, 188, 8, 181, 0, 44, 42, 17, 25, 0, 188, 8]
abbrev dktX3_init_2 : List UInt8 := dkwX3_init_2 ++ dktX3_init_3
def dkwX3_init_1 : List UInt8 := [187, 0, 23, 89, 183, 0, 25, 181, 0, 26, 42, 187, 0, 30, 89, 183, 0, 32, 181, 0, 33, 42]
abbrev dktX3_init_1 : List UInt8 := dkwX3_init_1 ++ dktX3_init_2
def dkwX3_init_0 : List UInt8 := [42, 183, 0, 3, 42, 187, 0, 9, 89, 187, 0, 11, 89, 183, 0, 13, 183, 0, 14, 181, 0, 17, 42]
abbrev dktX3_init_0 : List UInt8 := dkwX3_init_0 ++ dktX3_init_1
theorem dksX3_init_0 : cX3_init.data.toList.drop 0 = dktX3_init_0 := by decide +kernel
theorem dksX3_init_1 : cX3_init.data.toList.drop 23 = dktX3_init_1 := dk_seg dksX3_init_0 23 rfl rfl
theorem dksX3_init_2 : cX3_init.data.toList.drop 45 = dktX3_init_2 := dk_seg dksX3_init_1 22 rfl rfl
theorem dksX3_init_3 : cX3_init.data.toList.drop 69 = dktX3_init_3 := dk_seg dksX3_init_2 24 rfl rfl
theorem dX3_init_0 : decode cX3_init 0 = .ok (.aload_n 0, 1) := dk_42 (dk_at dksX3_init_0 0 rfl rfl)
theorem dX3_init_1 : decode cX3_init 1 = .ok (.invokespecial 3, 3) := dk_183 0 3 (dk_at dksX3_init_0 1 rfl rfl)
theorem dX3_init_4 : decode cX3_init 4 = .ok (.aload_n 0, 1) := dk_42 (dk_at dksX3_init_0 4 rfl rfl)
theorem dX3_init_5 : decode cX3_init 5 = .ok (.new 9, 3) := dk_187 0 9 (dk_at dksX3_init_0 5 rfl rfl)
theorem dX3_init_8 : decode cX3_init 8 = .ok (.dup, 1) := dk_89 (dk_at dksX3_init_0 8 rfl rfl)
theorem dX3_init_9 : decode cX3_init 9 = .ok (.new 11, 3) := dk_187 0 11 (dk_at dksX3_init_0 9 rfl rfl)
theorem dX3_init_12 : decode cX3_init 12 = .ok (.dup, 1) := dk_89 (dk_at dksX3_init_0 12 rfl rfl)
theorem dX3_init_13 : decode cX3_init 13 = .ok (.invokespecial 13, 3) := dk_183 0 13 (dk_at dksX3_init_0 13 rfl rfl)
theorem dX3_init_16 : decode cX3_init 16 = .ok (.invokespecial 14, 3) := dk_183 0 14 (dk_at dksX3_init_0 16 rfl rfl)
theorem dX3_init_19 : decode cX3_init 19 = .ok (.putfield 17, 3) := dk_181 0 17 (dk_at dksX3_init_0 19 rfl rfl)
theorem dX3_init_22 : decode cX3_init 22 = .ok (.aload_n 0, 1) := dk_42 (dk_at dksX3_init_0 22 rfl rfl)
theorem dX3_init_23 : decode cX3_init 23 = .ok (.new 23, 3) := dk_187 0 23 (dk_at dksX3_init_1 0 rfl rfl)
theorem dX3_init_26 : decode cX3_init 26 = .ok (.dup, 1) := dk_89 (dk_at dksX3_init_1 3 rfl rfl)
theorem dX3_init_27 : decode cX3_init 27 = .ok (.invokespecial 25, 3) := dk_183 0 25 (dk_at dksX3_init_1 4 rfl rfl)
theorem dX3_init_30 : decode cX3_init 30 = .ok (.putfield 26, 3) := dk_181 0 26 (dk_at dksX3_init_1 7 rfl rfl)
theorem dX3_init_33 : decode cX3_init 33 = .ok (.aload_n 0, 1) := dk_42 (dk_at dksX3_init_1 10 rfl rfl)
theorem dX3_init_34 : decode cX3_init 34 = .ok (.new 30, 3) := dk_187 0 30 (dk_at dksX3_init_1 11 rfl rfl)
theorem dX3_init_37 : decode cX3_init 37 = .ok (.dup, 1) := dk_89 (dk_at dksX3_init_1 14 rfl rfl)
theorem dX3_init_38 : decode cX3_init 38 = .ok (.invokespecial 32, 3) := dk_183 0 32 (dk_at dksX3_init_1 15 rfl rfl)
theorem dX3_init_41 : decode cX3_init 41 = .ok (.putfield 33, 3) := dk_181 0 33 (dk_at dksX3_init_1 18 rfl rfl)
theorem dX3_init_44 : decode cX3_init 44 = .ok (.aload_n 0, 1) := dk_42 (dk_at dksX3_init_1 21 rfl rfl)
theorem dX3_init_45 : decode cX3_init 45 = .ok (.new 37, 3) := dk_187 0 37 (dk_at dksX3_init_2 0 rfl rfl)
theorem dX3_init_48 : decode cX3_init 48 = .ok (.dup, 1) := dk_89 (dk_at dksX3_init_2 3 rfl rfl)
theorem dX3_init_49 : decode cX3_init 49 = .ok (.invokespecial 39, 3) := dk_183 0 39 (dk_at dksX3_init_2 4 rfl rfl)
theorem dX3_init_52 : decode cX3_init 52 = .ok (.putfield 40, 3) := dk_181 0 40 (dk_at dksX3_init_2 7 rfl rfl)
theorem dX3_init_55 : decode cX3_init 55 = .ok (.aload_n 0, 1) := dk_42 (dk_at dksX3_init_2 10 rfl rfl)
theorem dX3_init_56 : decode cX3_init 56 = .ok (.bipush 32, 2) := dk_16 32 (dk_at dksX3_init_2 11 rfl rfl)
theorem dX3_init_58 : decode cX3_init 58 = .ok (.newarray .byte, 2) := dk_188_8 (dk_at dksX3_init_2 13 rfl rfl)
theorem dX3_init_60 : decode cX3_init 60 = .ok (.putfield 44, 3) := dk_181 0 44 (dk_at dksX3_init_2 15 rfl rfl)
theorem dX3_init_63 : decode cX3_init 63 = .ok (.aload_n 0, 1) := dk_42 (dk_at dksX3_init_2 18 rfl rfl)
theorem dX3_init_64 : decode cX3_init 64 = .ok (.sipush 6400, 3) := dk_17 25 0 (dk_at dksX3_init_2 19 rfl rfl)
theorem dX3_init_67 : decode cX3_init 67 = .ok (.newarray .byte, 2) := dk_188_8 (dk_at dksX3_init_2 22 rfl rfl)
theorem dX3_init_69 : decode cX3_init 69 = .ok (.putfield 48, 3) := dk_181 0 48 (dk_at dksX3_init_3 0 rfl rfl)
theorem dX3_init_72 : decode cX3_init 72 = .ok (.return_, 1) := dk_177 (dk_at dksX3_init_3 3 rfl rfl)
abbrev cX3_isFull : ByteArray := prog_49_method_3_code
def yX3_isFull : MethodName := ⟨RX3, "isFull", "()Z"⟩
def dkwX3_isFull_0 : List UInt8 := [42, 180, 0, 33, 182, 0, 51, 17, 0, 200, 160, 0, 7, 4, 167, 0, 4, 3, 172]
abbrev dktX3_isFull_0 : List UInt8 := dkwX3_isFull_0 ++ []
theorem dksX3_isFull_0 : cX3_isFull.data.toList.drop 0 = dktX3_isFull_0 := by decide +kernel
theorem dX3_isFull_0 : decode cX3_isFull 0 = .ok (.aload_n 0, 1) := dk_42 (dk_at dksX3_isFull_0 0 rfl rfl)
theorem dX3_isFull_1 : decode cX3_isFull 1 = .ok (.getfield 33, 3) := dk_180 0 33 (dk_at dksX3_isFull_0 1 rfl rfl)
theorem dX3_isFull_4 : decode cX3_isFull 4 = .ok (.invokevirtual 51, 3) := dk_182 0 51 (dk_at dksX3_isFull_0 4 rfl rfl)
theorem dX3_isFull_7 : decode cX3_isFull 7 = .ok (.sipush 200, 3) := dk_17 0 200 (dk_at dksX3_isFull_0 7 rfl rfl)
theorem dX3_isFull_10 : decode cX3_isFull 10 = .ok (.if_icmp .ne 7, 3) := dk_160 0 7 (dk_at dksX3_isFull_0 10 rfl rfl)
theorem dX3_isFull_13 : decode cX3_isFull 13 = .ok (.iconst 1, 1) := dk_4 (dk_at dksX3_isFull_0 13 rfl rfl)
theorem dX3_isFull_14 : decode cX3_isFull 14 = .ok (.goto 4, 3) := dk_167 0 4 (dk_at dksX3_isFull_0 14 rfl rfl)
theorem dX3_isFull_17 : decode cX3_isFull 17 = .ok (.iconst 0, 1) := dk_3 (dk_at dksX3_isFull_0 17 rfl rfl)
theorem dX3_isFull_18 : decode cX3_isFull 18 = .ok (.ireturn, 1) := dk_172 (dk_at dksX3_isFull_0 18 rfl rfl)
abbrev cX3_ticket : ByteArray := prog_49_method_7_code
def yX3_ticket : MethodName := ⟨RX3, "ticket", "(LWasteHouse$TicketChain$Ticket;)I"⟩
def dkwX3_ticket_3 : List UInt8 := [42, 43, 182, 0, 88, 172]
abbrev dktX3_ticket_3 : List UInt8 := dkwX3_ticket_3 ++ []
def dkwX3_ticket_2 : List UInt8 := [182, 0, 84, 44, 43, 16, 6, 182, 0, 77, 182, 0, 84, 44, 43, 16, 7, 182, 0, 77, 136, 182, 0, 80]
abbrev dktX3_ticket_2 : List UInt8 := dkwX3_ticket_2 ++ dktX3_ticket_3
def dkwX3_ticket_1 : List UInt8 := [182, 0, 77, 136, 182, 0, 80, 44, 43, 6, 182, 0, 77, 182, 0, 84, 44, 43, 7, 182, 0, 77]
abbrev dktX3_ticket_1 : List UInt8 := dkwX3_ticket_1 ++ dktX3_ticket_2
def dkwX3_ticket_0 : List UInt8 := [42, 4, 43, 180, 0, 68, 182, 0, 74, 77, 44, 43, 4, 182, 0, 77, 136, 182, 0, 80, 44, 43, 5]
abbrev dktX3_ticket_0 : List UInt8 := dkwX3_ticket_0 ++ dktX3_ticket_1
theorem dksX3_ticket_0 : cX3_ticket.data.toList.drop 0 = dktX3_ticket_0 := by decide +kernel
theorem dksX3_ticket_1 : cX3_ticket.data.toList.drop 23 = dktX3_ticket_1 := dk_seg dksX3_ticket_0 23 rfl rfl
theorem dksX3_ticket_2 : cX3_ticket.data.toList.drop 45 = dktX3_ticket_2 := dk_seg dksX3_ticket_1 22 rfl rfl
theorem dksX3_ticket_3 : cX3_ticket.data.toList.drop 69 = dktX3_ticket_3 := dk_seg dksX3_ticket_2 24 rfl rfl
theorem dX3_ticket_0 : decode cX3_ticket 0 = .ok (.aload_n 0, 1) := dk_42 (dk_at dksX3_ticket_0 0 rfl rfl)
theorem dX3_ticket_1 : decode cX3_ticket 1 = .ok (.iconst 1, 1) := dk_4 (dk_at dksX3_ticket_0 1 rfl rfl)
theorem dX3_ticket_2 : decode cX3_ticket 2 = .ok (.aload_n 1, 1) := dk_43 (dk_at dksX3_ticket_0 2 rfl rfl)
theorem dX3_ticket_3 : decode cX3_ticket 3 = .ok (.getfield 68, 3) := dk_180 0 68 (dk_at dksX3_ticket_0 3 rfl rfl)
theorem dX3_ticket_6 : decode cX3_ticket 6 = .ok (.invokevirtual 74, 3) := dk_182 0 74 (dk_at dksX3_ticket_0 6 rfl rfl)
theorem dX3_ticket_9 : decode cX3_ticket 9 = .ok (.astore_n 2, 1) := dk_77 (dk_at dksX3_ticket_0 9 rfl rfl)
theorem dX3_ticket_10 : decode cX3_ticket 10 = .ok (.aload_n 2, 1) := dk_44 (dk_at dksX3_ticket_0 10 rfl rfl)
theorem dX3_ticket_11 : decode cX3_ticket 11 = .ok (.aload_n 1, 1) := dk_43 (dk_at dksX3_ticket_0 11 rfl rfl)
theorem dX3_ticket_12 : decode cX3_ticket 12 = .ok (.iconst 1, 1) := dk_4 (dk_at dksX3_ticket_0 12 rfl rfl)
theorem dX3_ticket_13 : decode cX3_ticket 13 = .ok (.invokevirtual 77, 3) := dk_182 0 77 (dk_at dksX3_ticket_0 13 rfl rfl)
theorem dX3_ticket_16 : decode cX3_ticket 16 = .ok (.l2i, 1) := dk_136 (dk_at dksX3_ticket_0 16 rfl rfl)
theorem dX3_ticket_17 : decode cX3_ticket 17 = .ok (.invokevirtual 80, 3) := dk_182 0 80 (dk_at dksX3_ticket_0 17 rfl rfl)
theorem dX3_ticket_20 : decode cX3_ticket 20 = .ok (.aload_n 2, 1) := dk_44 (dk_at dksX3_ticket_0 20 rfl rfl)
theorem dX3_ticket_21 : decode cX3_ticket 21 = .ok (.aload_n 1, 1) := dk_43 (dk_at dksX3_ticket_0 21 rfl rfl)
theorem dX3_ticket_22 : decode cX3_ticket 22 = .ok (.iconst 2, 1) := dk_5 (dk_at dksX3_ticket_0 22 rfl rfl)
theorem dX3_ticket_23 : decode cX3_ticket 23 = .ok (.invokevirtual 77, 3) := dk_182 0 77 (dk_at dksX3_ticket_1 0 rfl rfl)
theorem dX3_ticket_26 : decode cX3_ticket 26 = .ok (.l2i, 1) := dk_136 (dk_at dksX3_ticket_1 3 rfl rfl)
theorem dX3_ticket_27 : decode cX3_ticket 27 = .ok (.invokevirtual 80, 3) := dk_182 0 80 (dk_at dksX3_ticket_1 4 rfl rfl)
theorem dX3_ticket_30 : decode cX3_ticket 30 = .ok (.aload_n 2, 1) := dk_44 (dk_at dksX3_ticket_1 7 rfl rfl)
theorem dX3_ticket_31 : decode cX3_ticket 31 = .ok (.aload_n 1, 1) := dk_43 (dk_at dksX3_ticket_1 8 rfl rfl)
theorem dX3_ticket_32 : decode cX3_ticket 32 = .ok (.iconst 3, 1) := dk_6 (dk_at dksX3_ticket_1 9 rfl rfl)
theorem dX3_ticket_33 : decode cX3_ticket 33 = .ok (.invokevirtual 77, 3) := dk_182 0 77 (dk_at dksX3_ticket_1 10 rfl rfl)
theorem dX3_ticket_36 : decode cX3_ticket 36 = .ok (.invokevirtual 84, 3) := dk_182 0 84 (dk_at dksX3_ticket_1 13 rfl rfl)
theorem dX3_ticket_39 : decode cX3_ticket 39 = .ok (.aload_n 2, 1) := dk_44 (dk_at dksX3_ticket_1 16 rfl rfl)
theorem dX3_ticket_40 : decode cX3_ticket 40 = .ok (.aload_n 1, 1) := dk_43 (dk_at dksX3_ticket_1 17 rfl rfl)
theorem dX3_ticket_41 : decode cX3_ticket 41 = .ok (.iconst 4, 1) := dk_7 (dk_at dksX3_ticket_1 18 rfl rfl)
theorem dX3_ticket_42 : decode cX3_ticket 42 = .ok (.invokevirtual 77, 3) := dk_182 0 77 (dk_at dksX3_ticket_1 19 rfl rfl)
theorem dX3_ticket_45 : decode cX3_ticket 45 = .ok (.invokevirtual 84, 3) := dk_182 0 84 (dk_at dksX3_ticket_2 0 rfl rfl)
theorem dX3_ticket_48 : decode cX3_ticket 48 = .ok (.aload_n 2, 1) := dk_44 (dk_at dksX3_ticket_2 3 rfl rfl)
theorem dX3_ticket_49 : decode cX3_ticket 49 = .ok (.aload_n 1, 1) := dk_43 (dk_at dksX3_ticket_2 4 rfl rfl)
theorem dX3_ticket_50 : decode cX3_ticket 50 = .ok (.bipush 6, 2) := dk_16 6 (dk_at dksX3_ticket_2 5 rfl rfl)
theorem dX3_ticket_52 : decode cX3_ticket 52 = .ok (.invokevirtual 77, 3) := dk_182 0 77 (dk_at dksX3_ticket_2 7 rfl rfl)
theorem dX3_ticket_55 : decode cX3_ticket 55 = .ok (.invokevirtual 84, 3) := dk_182 0 84 (dk_at dksX3_ticket_2 10 rfl rfl)
theorem dX3_ticket_58 : decode cX3_ticket 58 = .ok (.aload_n 2, 1) := dk_44 (dk_at dksX3_ticket_2 13 rfl rfl)
theorem dX3_ticket_59 : decode cX3_ticket 59 = .ok (.aload_n 1, 1) := dk_43 (dk_at dksX3_ticket_2 14 rfl rfl)
theorem dX3_ticket_60 : decode cX3_ticket 60 = .ok (.bipush 7, 2) := dk_16 7 (dk_at dksX3_ticket_2 15 rfl rfl)
theorem dX3_ticket_62 : decode cX3_ticket 62 = .ok (.invokevirtual 77, 3) := dk_182 0 77 (dk_at dksX3_ticket_2 17 rfl rfl)
theorem dX3_ticket_65 : decode cX3_ticket 65 = .ok (.l2i, 1) := dk_136 (dk_at dksX3_ticket_2 20 rfl rfl)
theorem dX3_ticket_66 : decode cX3_ticket 66 = .ok (.invokevirtual 80, 3) := dk_182 0 80 (dk_at dksX3_ticket_2 21 rfl rfl)
theorem dX3_ticket_69 : decode cX3_ticket 69 = .ok (.aload_n 0, 1) := dk_42 (dk_at dksX3_ticket_3 0 rfl rfl)
theorem dX3_ticket_70 : decode cX3_ticket 70 = .ok (.aload_n 1, 1) := dk_43 (dk_at dksX3_ticket_3 1 rfl rfl)
theorem dX3_ticket_71 : decode cX3_ticket 71 = .ok (.invokevirtual 88, 3) := dk_182 0 88 (dk_at dksX3_ticket_3 2 rfl rfl)
theorem dX3_ticket_74 : decode cX3_ticket 74 = .ok (.ireturn, 1) := dk_172 (dk_at dksX3_ticket_3 5 rfl rfl)
abbrev cX3_begin : ByteArray := prog_49_method_6_code
def yX3_begin : MethodName := ⟨RX3, "begin", "(II)LWasteHouse$TicketChain$Writer;"⟩
def dkwX3_begin_1 : List UInt8 := [42, 180, 0, 26, 176]
abbrev dktX3_begin_1 : List UInt8 := dkwX3_begin_1 ++ []
def dkwX3_begin_0 : List UInt8 := [16, 73, 188, 8, 78, 42, 180, 0, 33, 45, 182, 0, 60, 87, 42, 180, 0, 26, 45, 27, 28, 182, 0, 64]
abbrev dktX3_begin_0 : List UInt8 := dkwX3_begin_0 ++ dktX3_begin_1
theorem dksX3_begin_0 : cX3_begin.data.toList.drop 0 = dktX3_begin_0 := by decide +kernel
theorem dksX3_begin_1 : cX3_begin.data.toList.drop 24 = dktX3_begin_1 := dk_seg dksX3_begin_0 24 rfl rfl
theorem dX3_begin_0 : decode cX3_begin 0 = .ok (.bipush 73, 2) := dk_16 73 (dk_at dksX3_begin_0 0 rfl rfl)
theorem dX3_begin_2 : decode cX3_begin 2 = .ok (.newarray .byte, 2) := dk_188_8 (dk_at dksX3_begin_0 2 rfl rfl)
theorem dX3_begin_4 : decode cX3_begin 4 = .ok (.astore_n 3, 1) := dk_78 (dk_at dksX3_begin_0 4 rfl rfl)
theorem dX3_begin_5 : decode cX3_begin 5 = .ok (.aload_n 0, 1) := dk_42 (dk_at dksX3_begin_0 5 rfl rfl)
theorem dX3_begin_6 : decode cX3_begin 6 = .ok (.getfield 33, 3) := dk_180 0 33 (dk_at dksX3_begin_0 6 rfl rfl)
theorem dX3_begin_9 : decode cX3_begin 9 = .ok (.aload_n 3, 1) := dk_45 (dk_at dksX3_begin_0 9 rfl rfl)
theorem dX3_begin_10 : decode cX3_begin 10 = .ok (.invokevirtual 60, 3) := dk_182 0 60 (dk_at dksX3_begin_0 10 rfl rfl)
theorem dX3_begin_13 : decode cX3_begin 13 = .ok (.pop, 1) := dk_87 (dk_at dksX3_begin_0 13 rfl rfl)
theorem dX3_begin_14 : decode cX3_begin 14 = .ok (.aload_n 0, 1) := dk_42 (dk_at dksX3_begin_0 14 rfl rfl)
theorem dX3_begin_15 : decode cX3_begin 15 = .ok (.getfield 26, 3) := dk_180 0 26 (dk_at dksX3_begin_0 15 rfl rfl)
theorem dX3_begin_18 : decode cX3_begin 18 = .ok (.aload_n 3, 1) := dk_45 (dk_at dksX3_begin_0 18 rfl rfl)
theorem dX3_begin_19 : decode cX3_begin 19 = .ok (.iload_n 1, 1) := dk_27 (dk_at dksX3_begin_0 19 rfl rfl)
theorem dX3_begin_20 : decode cX3_begin 20 = .ok (.iload_n 2, 1) := dk_28 (dk_at dksX3_begin_0 20 rfl rfl)
theorem dX3_begin_21 : decode cX3_begin 21 = .ok (.invokevirtual 64, 3) := dk_182 0 64 (dk_at dksX3_begin_0 21 rfl rfl)
theorem dX3_begin_24 : decode cX3_begin 24 = .ok (.aload_n 0, 1) := dk_42 (dk_at dksX3_begin_1 0 rfl rfl)
theorem dX3_begin_25 : decode cX3_begin 25 = .ok (.getfield 26, 3) := dk_180 0 26 (dk_at dksX3_begin_1 1 rfl rfl)
theorem dX3_begin_28 : decode cX3_begin 28 = .ok (.areturn, 1) := dk_176 (dk_at dksX3_begin_1 4 rfl rfl)
abbrev cX3_close : ByteArray := prog_49_method_10_code
def yX3_close : MethodName := ⟨RX3, "close", "(LWasteHouse$TicketChain$Ticket;)I"⟩
def dkwX3_close_4 : List UInt8 := [182, 0, 60, 87, 28, 172]
abbrev dktX3_close_4 : List UInt8 := dkwX3_close_4 ++ []
def dkwX3_close_3 : List UInt8 := [183, 0, 32, 58, 5, 42, 180, 0, 40, 21, 4, 184, 0, 98, 25, 5, 182, 0, 107, 87, 25, 5, 45]
abbrev dktX3_close_3 : List UInt8 := dkwX3_close_3 ++ dktX3_close_4
def dkwX3_close_2 : List UInt8 := [21, 4, 184, 0, 98, 182, 0, 104, 192, 0, 30, 58, 5, 25, 5, 199, 0, 27, 187, 0, 30, 89]
abbrev dktX3_close_2 : List UInt8 := dkwX3_close_2 ++ dktX3_close_3
def dkwX3_close_1 : List UInt8 := [45, 16, 41, 182, 0, 92, 43, 16, 6, 182, 0, 77, 20, 0, 96, 109, 136, 54, 4, 42, 180, 0, 40]
abbrev dktX3_close_1 : List UInt8 := dkwX3_close_1 ++ dktX3_close_2
def dkwX3_close_0 : List UInt8 := [42, 180, 0, 33, 182, 0, 51, 4, 100, 61, 42, 180, 0, 33, 28, 182, 0, 55, 192, 0, 59, 78, 42, 28]
abbrev dktX3_close_0 : List UInt8 := dkwX3_close_0 ++ dktX3_close_1
theorem dksX3_close_0 : cX3_close.data.toList.drop 0 = dktX3_close_0 := by decide +kernel
theorem dksX3_close_1 : cX3_close.data.toList.drop 24 = dktX3_close_1 := dk_seg dksX3_close_0 24 rfl rfl
theorem dksX3_close_2 : cX3_close.data.toList.drop 47 = dktX3_close_2 := dk_seg dksX3_close_1 23 rfl rfl
theorem dksX3_close_3 : cX3_close.data.toList.drop 69 = dktX3_close_3 := dk_seg dksX3_close_2 22 rfl rfl
theorem dksX3_close_4 : cX3_close.data.toList.drop 92 = dktX3_close_4 := dk_seg dksX3_close_3 23 rfl rfl
theorem dX3_close_0 : decode cX3_close 0 = .ok (.aload_n 0, 1) := dk_42 (dk_at dksX3_close_0 0 rfl rfl)
theorem dX3_close_1 : decode cX3_close 1 = .ok (.getfield 33, 3) := dk_180 0 33 (dk_at dksX3_close_0 1 rfl rfl)
theorem dX3_close_4 : decode cX3_close 4 = .ok (.invokevirtual 51, 3) := dk_182 0 51 (dk_at dksX3_close_0 4 rfl rfl)
theorem dX3_close_7 : decode cX3_close 7 = .ok (.iconst 1, 1) := dk_4 (dk_at dksX3_close_0 7 rfl rfl)
theorem dX3_close_8 : decode cX3_close 8 = .ok (.isub, 1) := dk_100 (dk_at dksX3_close_0 8 rfl rfl)
theorem dX3_close_9 : decode cX3_close 9 = .ok (.istore_n 2, 1) := dk_61 (dk_at dksX3_close_0 9 rfl rfl)
theorem dX3_close_10 : decode cX3_close 10 = .ok (.aload_n 0, 1) := dk_42 (dk_at dksX3_close_0 10 rfl rfl)
theorem dX3_close_11 : decode cX3_close 11 = .ok (.getfield 33, 3) := dk_180 0 33 (dk_at dksX3_close_0 11 rfl rfl)
theorem dX3_close_14 : decode cX3_close 14 = .ok (.iload_n 2, 1) := dk_28 (dk_at dksX3_close_0 14 rfl rfl)
theorem dX3_close_15 : decode cX3_close 15 = .ok (.invokevirtual 55, 3) := dk_182 0 55 (dk_at dksX3_close_0 15 rfl rfl)
theorem dX3_close_18 : decode cX3_close 18 = .ok (.checkcast 59, 3) := dk_192 0 59 (dk_at dksX3_close_0 18 rfl rfl)
theorem dX3_close_21 : decode cX3_close 21 = .ok (.astore_n 3, 1) := dk_78 (dk_at dksX3_close_0 21 rfl rfl)
theorem dX3_close_22 : decode cX3_close 22 = .ok (.aload_n 0, 1) := dk_42 (dk_at dksX3_close_0 22 rfl rfl)
theorem dX3_close_23 : decode cX3_close 23 = .ok (.iload_n 2, 1) := dk_28 (dk_at dksX3_close_0 23 rfl rfl)
theorem dX3_close_24 : decode cX3_close 24 = .ok (.aload_n 3, 1) := dk_45 (dk_at dksX3_close_1 0 rfl rfl)
theorem dX3_close_25 : decode cX3_close 25 = .ok (.bipush 41, 2) := dk_16 41 (dk_at dksX3_close_1 1 rfl rfl)
theorem dX3_close_27 : decode cX3_close 27 = .ok (.invokevirtual 92, 3) := dk_182 0 92 (dk_at dksX3_close_1 3 rfl rfl)
theorem dX3_close_30 : decode cX3_close 30 = .ok (.aload_n 1, 1) := dk_43 (dk_at dksX3_close_1 6 rfl rfl)
theorem dX3_close_31 : decode cX3_close 31 = .ok (.bipush 6, 2) := dk_16 6 (dk_at dksX3_close_1 7 rfl rfl)
theorem dX3_close_33 : decode cX3_close 33 = .ok (.invokevirtual 77, 3) := dk_182 0 77 (dk_at dksX3_close_1 9 rfl rfl)
theorem dX3_close_36 : decode cX3_close 36 = .ok (.ldc2_w 96, 3) := dk_20 0 96 (dk_at dksX3_close_1 12 rfl rfl)
theorem dX3_close_39 : decode cX3_close 39 = .ok (.ldiv, 1) := dk_109 (dk_at dksX3_close_1 15 rfl rfl)
theorem dX3_close_40 : decode cX3_close 40 = .ok (.l2i, 1) := dk_136 (dk_at dksX3_close_1 16 rfl rfl)
theorem dX3_close_41 : decode cX3_close 41 = .ok (.istore 4, 2) := dk_54 4 (dk_at dksX3_close_1 17 rfl rfl)
theorem dX3_close_43 : decode cX3_close 43 = .ok (.aload_n 0, 1) := dk_42 (dk_at dksX3_close_1 19 rfl rfl)
theorem dX3_close_44 : decode cX3_close 44 = .ok (.getfield 40, 3) := dk_180 0 40 (dk_at dksX3_close_1 20 rfl rfl)
theorem dX3_close_47 : decode cX3_close 47 = .ok (.iload 4, 2) := dk_21 4 (dk_at dksX3_close_2 0 rfl rfl)
theorem dX3_close_49 : decode cX3_close 49 = .ok (.invokestatic 98, 3) := dk_184 0 98 (dk_at dksX3_close_2 2 rfl rfl)
theorem dX3_close_52 : decode cX3_close 52 = .ok (.invokevirtual 104, 3) := dk_182 0 104 (dk_at dksX3_close_2 5 rfl rfl)
theorem dX3_close_55 : decode cX3_close 55 = .ok (.checkcast 30, 3) := dk_192 0 30 (dk_at dksX3_close_2 8 rfl rfl)
theorem dX3_close_58 : decode cX3_close 58 = .ok (.astore 5, 2) := dk_58 5 (dk_at dksX3_close_2 11 rfl rfl)
theorem dX3_close_60 : decode cX3_close 60 = .ok (.aload 5, 2) := dk_25 5 (dk_at dksX3_close_2 13 rfl rfl)
theorem dX3_close_62 : decode cX3_close 62 = .ok (.ifnonnull 27, 3) := dk_199 0 27 (dk_at dksX3_close_2 15 rfl rfl)
theorem dX3_close_65 : decode cX3_close 65 = .ok (.new 30, 3) := dk_187 0 30 (dk_at dksX3_close_2 18 rfl rfl)
theorem dX3_close_68 : decode cX3_close 68 = .ok (.dup, 1) := dk_89 (dk_at dksX3_close_2 21 rfl rfl)
theorem dX3_close_69 : decode cX3_close 69 = .ok (.invokespecial 32, 3) := dk_183 0 32 (dk_at dksX3_close_3 0 rfl rfl)
theorem dX3_close_72 : decode cX3_close 72 = .ok (.astore 5, 2) := dk_58 5 (dk_at dksX3_close_3 3 rfl rfl)
theorem dX3_close_74 : decode cX3_close 74 = .ok (.aload_n 0, 1) := dk_42 (dk_at dksX3_close_3 5 rfl rfl)
theorem dX3_close_75 : decode cX3_close 75 = .ok (.getfield 40, 3) := dk_180 0 40 (dk_at dksX3_close_3 6 rfl rfl)
theorem dX3_close_78 : decode cX3_close 78 = .ok (.iload 4, 2) := dk_21 4 (dk_at dksX3_close_3 9 rfl rfl)
theorem dX3_close_80 : decode cX3_close 80 = .ok (.invokestatic 98, 3) := dk_184 0 98 (dk_at dksX3_close_3 11 rfl rfl)
theorem dX3_close_83 : decode cX3_close 83 = .ok (.aload 5, 2) := dk_25 5 (dk_at dksX3_close_3 14 rfl rfl)
theorem dX3_close_85 : decode cX3_close 85 = .ok (.invokevirtual 107, 3) := dk_182 0 107 (dk_at dksX3_close_3 16 rfl rfl)
theorem dX3_close_88 : decode cX3_close 88 = .ok (.pop, 1) := dk_87 (dk_at dksX3_close_3 19 rfl rfl)
theorem dX3_close_89 : decode cX3_close 89 = .ok (.aload 5, 2) := dk_25 5 (dk_at dksX3_close_3 20 rfl rfl)
theorem dX3_close_91 : decode cX3_close 91 = .ok (.aload_n 3, 1) := dk_45 (dk_at dksX3_close_3 22 rfl rfl)
theorem dX3_close_92 : decode cX3_close 92 = .ok (.invokevirtual 60, 3) := dk_182 0 60 (dk_at dksX3_close_4 0 rfl rfl)
theorem dX3_close_95 : decode cX3_close 95 = .ok (.pop, 1) := dk_87 (dk_at dksX3_close_4 3 rfl rfl)
theorem dX3_close_96 : decode cX3_close 96 = .ok (.iload_n 2, 1) := dk_28 (dk_at dksX3_close_4 4 rfl rfl)
theorem dX3_close_97 : decode cX3_close 97 = .ok (.ireturn, 1) := dk_172 (dk_at dksX3_close_4 5 rfl rfl)
abbrev cX3_digest : ByteArray := prog_49_method_11_code
def yX3_digest : MethodName := ⟨RX3, "digest", "(I[BI)V"⟩
def dkwX3_digest_4 : List UInt8 := [182, 0, 118, 177]
abbrev dktX3_digest_4 : List UInt8 := dkwX3_digest_4 ++ []
def dkwX3_digest_3 : List UInt8 := [180, 0, 33, 27, 182, 0, 55, 192, 0, 59, 3, 16, 41, 182, 0, 113, 42, 180, 0, 17, 44, 29]
abbrev dktX3_digest_3 : List UInt8 := dkwX3_digest_3 ++ dktX3_digest_4
def dkwX3_digest_2 : List UInt8 := [162, 0, 17, 42, 180, 0, 17, 3, 182, 0, 116, 132, 4, 1, 167, 255, 238, 42, 180, 0, 17, 42]
abbrev dktX3_digest_2 : List UInt8 := dkwX3_digest_2 ++ dktX3_digest_3
def dkwX3_digest_1 : List UInt8 := [182, 0, 55, 192, 0, 59, 16, 41, 16, 32, 182, 0, 113, 167, 0, 27, 3, 54, 4, 21, 4, 16, 32]
abbrev dktX3_digest_1 : List UInt8 := dkwX3_digest_1 ++ dktX3_digest_2
def dkwX3_digest_0 : List UInt8 := [42, 180, 0, 17, 182, 0, 111, 27, 158, 0, 30, 42, 180, 0, 17, 42, 180, 0, 33, 27, 4, 100]
abbrev dktX3_digest_0 : List UInt8 := dkwX3_digest_0 ++ dktX3_digest_1
theorem dksX3_digest_0 : cX3_digest.data.toList.drop 0 = dktX3_digest_0 := by decide +kernel
theorem dksX3_digest_1 : cX3_digest.data.toList.drop 22 = dktX3_digest_1 := dk_seg dksX3_digest_0 22 rfl rfl
theorem dksX3_digest_2 : cX3_digest.data.toList.drop 45 = dktX3_digest_2 := dk_seg dksX3_digest_1 23 rfl rfl
theorem dksX3_digest_3 : cX3_digest.data.toList.drop 67 = dktX3_digest_3 := dk_seg dksX3_digest_2 22 rfl rfl
theorem dksX3_digest_4 : cX3_digest.data.toList.drop 89 = dktX3_digest_4 := dk_seg dksX3_digest_3 22 rfl rfl
theorem dX3_digest_0 : decode cX3_digest 0 = .ok (.aload_n 0, 1) := dk_42 (dk_at dksX3_digest_0 0 rfl rfl)
theorem dX3_digest_1 : decode cX3_digest 1 = .ok (.getfield 17, 3) := dk_180 0 17 (dk_at dksX3_digest_0 1 rfl rfl)
theorem dX3_digest_4 : decode cX3_digest 4 = .ok (.invokevirtual 111, 3) := dk_182 0 111 (dk_at dksX3_digest_0 4 rfl rfl)
theorem dX3_digest_7 : decode cX3_digest 7 = .ok (.iload_n 1, 1) := dk_27 (dk_at dksX3_digest_0 7 rfl rfl)
theorem dX3_digest_8 : decode cX3_digest 8 = .ok (.ifCond .le 30, 3) := dk_158 0 30 (dk_at dksX3_digest_0 8 rfl rfl)
theorem dX3_digest_11 : decode cX3_digest 11 = .ok (.aload_n 0, 1) := dk_42 (dk_at dksX3_digest_0 11 rfl rfl)
theorem dX3_digest_12 : decode cX3_digest 12 = .ok (.getfield 17, 3) := dk_180 0 17 (dk_at dksX3_digest_0 12 rfl rfl)
theorem dX3_digest_15 : decode cX3_digest 15 = .ok (.aload_n 0, 1) := dk_42 (dk_at dksX3_digest_0 15 rfl rfl)
theorem dX3_digest_16 : decode cX3_digest 16 = .ok (.getfield 33, 3) := dk_180 0 33 (dk_at dksX3_digest_0 16 rfl rfl)
theorem dX3_digest_19 : decode cX3_digest 19 = .ok (.iload_n 1, 1) := dk_27 (dk_at dksX3_digest_0 19 rfl rfl)
theorem dX3_digest_20 : decode cX3_digest 20 = .ok (.iconst 1, 1) := dk_4 (dk_at dksX3_digest_0 20 rfl rfl)
theorem dX3_digest_21 : decode cX3_digest 21 = .ok (.isub, 1) := dk_100 (dk_at dksX3_digest_0 21 rfl rfl)
theorem dX3_digest_22 : decode cX3_digest 22 = .ok (.invokevirtual 55, 3) := dk_182 0 55 (dk_at dksX3_digest_1 0 rfl rfl)
theorem dX3_digest_25 : decode cX3_digest 25 = .ok (.checkcast 59, 3) := dk_192 0 59 (dk_at dksX3_digest_1 3 rfl rfl)
theorem dX3_digest_28 : decode cX3_digest 28 = .ok (.bipush 41, 2) := dk_16 41 (dk_at dksX3_digest_1 6 rfl rfl)
theorem dX3_digest_30 : decode cX3_digest 30 = .ok (.bipush 32, 2) := dk_16 32 (dk_at dksX3_digest_1 8 rfl rfl)
theorem dX3_digest_32 : decode cX3_digest 32 = .ok (.invokevirtual 113, 3) := dk_182 0 113 (dk_at dksX3_digest_1 10 rfl rfl)
theorem dX3_digest_35 : decode cX3_digest 35 = .ok (.goto 27, 3) := dk_167 0 27 (dk_at dksX3_digest_1 13 rfl rfl)
theorem dX3_digest_38 : decode cX3_digest 38 = .ok (.iconst 0, 1) := dk_3 (dk_at dksX3_digest_1 16 rfl rfl)
theorem dX3_digest_39 : decode cX3_digest 39 = .ok (.istore 4, 2) := dk_54 4 (dk_at dksX3_digest_1 17 rfl rfl)
theorem dX3_digest_41 : decode cX3_digest 41 = .ok (.iload 4, 2) := dk_21 4 (dk_at dksX3_digest_1 19 rfl rfl)
theorem dX3_digest_43 : decode cX3_digest 43 = .ok (.bipush 32, 2) := dk_16 32 (dk_at dksX3_digest_1 21 rfl rfl)
theorem dX3_digest_45 : decode cX3_digest 45 = .ok (.if_icmp .ge 17, 3) := dk_162 0 17 (dk_at dksX3_digest_2 0 rfl rfl)
theorem dX3_digest_48 : decode cX3_digest 48 = .ok (.aload_n 0, 1) := dk_42 (dk_at dksX3_digest_2 3 rfl rfl)
theorem dX3_digest_49 : decode cX3_digest 49 = .ok (.getfield 17, 3) := dk_180 0 17 (dk_at dksX3_digest_2 4 rfl rfl)
theorem dX3_digest_52 : decode cX3_digest 52 = .ok (.iconst 0, 1) := dk_3 (dk_at dksX3_digest_2 7 rfl rfl)
theorem dX3_digest_53 : decode cX3_digest 53 = .ok (.invokevirtual 116, 3) := dk_182 0 116 (dk_at dksX3_digest_2 8 rfl rfl)
theorem dX3_digest_56 : decode cX3_digest 56 = .ok (.iinc 4 1, 3) := dk_132 4 1 (dk_at dksX3_digest_2 11 rfl rfl)
theorem dX3_digest_59 : decode cX3_digest 59 = .ok (.goto (-18), 3) := dk_167 255 238 (dk_at dksX3_digest_2 14 rfl rfl)
theorem dX3_digest_62 : decode cX3_digest 62 = .ok (.aload_n 0, 1) := dk_42 (dk_at dksX3_digest_2 17 rfl rfl)
theorem dX3_digest_63 : decode cX3_digest 63 = .ok (.getfield 17, 3) := dk_180 0 17 (dk_at dksX3_digest_2 18 rfl rfl)
theorem dX3_digest_66 : decode cX3_digest 66 = .ok (.aload_n 0, 1) := dk_42 (dk_at dksX3_digest_2 21 rfl rfl)
theorem dX3_digest_67 : decode cX3_digest 67 = .ok (.getfield 33, 3) := dk_180 0 33 (dk_at dksX3_digest_3 0 rfl rfl)
theorem dX3_digest_70 : decode cX3_digest 70 = .ok (.iload_n 1, 1) := dk_27 (dk_at dksX3_digest_3 3 rfl rfl)
theorem dX3_digest_71 : decode cX3_digest 71 = .ok (.invokevirtual 55, 3) := dk_182 0 55 (dk_at dksX3_digest_3 4 rfl rfl)
theorem dX3_digest_74 : decode cX3_digest 74 = .ok (.checkcast 59, 3) := dk_192 0 59 (dk_at dksX3_digest_3 7 rfl rfl)
theorem dX3_digest_77 : decode cX3_digest 77 = .ok (.iconst 0, 1) := dk_3 (dk_at dksX3_digest_3 10 rfl rfl)
theorem dX3_digest_78 : decode cX3_digest 78 = .ok (.bipush 41, 2) := dk_16 41 (dk_at dksX3_digest_3 11 rfl rfl)
theorem dX3_digest_80 : decode cX3_digest 80 = .ok (.invokevirtual 113, 3) := dk_182 0 113 (dk_at dksX3_digest_3 13 rfl rfl)
theorem dX3_digest_83 : decode cX3_digest 83 = .ok (.aload_n 0, 1) := dk_42 (dk_at dksX3_digest_3 16 rfl rfl)
theorem dX3_digest_84 : decode cX3_digest 84 = .ok (.getfield 17, 3) := dk_180 0 17 (dk_at dksX3_digest_3 17 rfl rfl)
theorem dX3_digest_87 : decode cX3_digest 87 = .ok (.aload_n 2, 1) := dk_44 (dk_at dksX3_digest_3 20 rfl rfl)
theorem dX3_digest_88 : decode cX3_digest 88 = .ok (.iload_n 3, 1) := dk_29 (dk_at dksX3_digest_3 21 rfl rfl)
theorem dX3_digest_89 : decode cX3_digest 89 = .ok (.invokevirtual 118, 3) := dk_182 0 118 (dk_at dksX3_digest_4 0 rfl rfl)
theorem dX3_digest_92 : decode cX3_digest 92 = .ok (.return_, 1) := dk_177 (dk_at dksX3_digest_4 3 rfl rfl)
abbrev cX3_count : ByteArray := prog_49_method_2_code
def yX3_count : MethodName := ⟨RX3, "count", "()I"⟩
def dkwX3_count_0 : List UInt8 := [42, 180, 0, 33, 182, 0, 51, 172]
abbrev dktX3_count_0 : List UInt8 := dkwX3_count_0 ++ []
theorem dksX3_count_0 : cX3_count.data.toList.drop 0 = dktX3_count_0 := by decide +kernel
theorem dX3_count_0 : decode cX3_count 0 = .ok (.aload_n 0, 1) := dk_42 (dk_at dksX3_count_0 0 rfl rfl)
theorem dX3_count_1 : decode cX3_count 1 = .ok (.getfield 33, 3) := dk_180 0 33 (dk_at dksX3_count_0 1 rfl rfl)
theorem dX3_count_4 : decode cX3_count 4 = .ok (.invokevirtual 51, 3) := dk_182 0 51 (dk_at dksX3_count_0 4 rfl rfl)
theorem dX3_count_7 : decode cX3_count 7 = .ok (.ireturn, 1) := dk_172 (dk_at dksX3_count_0 7 rfl rfl)
abbrev cX3_check : ByteArray := prog_49_method_13_code
def yX3_check : MethodName := ⟨RX3, "check", "(I)I"⟩
def dkwX3_check_1 : List UInt8 := [167, 255, 234, 28, 42, 180, 0, 33, 182, 0, 51, 160, 0, 7, 3, 167, 0, 6, 28, 4, 96, 172]
abbrev dktX3_check_1 : List UInt8 := dkwX3_check_1 ++ []
def dkwX3_check_0 : List UInt8 := [27, 61, 28, 42, 180, 0, 33, 182, 0, 51, 162, 0, 17, 42, 28, 182, 0, 122, 153, 0, 9, 132, 2, 1]
abbrev dktX3_check_0 : List UInt8 := dkwX3_check_0 ++ dktX3_check_1
theorem dksX3_check_0 : cX3_check.data.toList.drop 0 = dktX3_check_0 := by decide +kernel
theorem dksX3_check_1 : cX3_check.data.toList.drop 24 = dktX3_check_1 := dk_seg dksX3_check_0 24 rfl rfl
theorem dX3_check_0 : decode cX3_check 0 = .ok (.iload_n 1, 1) := dk_27 (dk_at dksX3_check_0 0 rfl rfl)
theorem dX3_check_1 : decode cX3_check 1 = .ok (.istore_n 2, 1) := dk_61 (dk_at dksX3_check_0 1 rfl rfl)
theorem dX3_check_2 : decode cX3_check 2 = .ok (.iload_n 2, 1) := dk_28 (dk_at dksX3_check_0 2 rfl rfl)
theorem dX3_check_3 : decode cX3_check 3 = .ok (.aload_n 0, 1) := dk_42 (dk_at dksX3_check_0 3 rfl rfl)
theorem dX3_check_4 : decode cX3_check 4 = .ok (.getfield 33, 3) := dk_180 0 33 (dk_at dksX3_check_0 4 rfl rfl)
theorem dX3_check_7 : decode cX3_check 7 = .ok (.invokevirtual 51, 3) := dk_182 0 51 (dk_at dksX3_check_0 7 rfl rfl)
theorem dX3_check_10 : decode cX3_check 10 = .ok (.if_icmp .ge 17, 3) := dk_162 0 17 (dk_at dksX3_check_0 10 rfl rfl)
theorem dX3_check_13 : decode cX3_check 13 = .ok (.aload_n 0, 1) := dk_42 (dk_at dksX3_check_0 13 rfl rfl)
theorem dX3_check_14 : decode cX3_check 14 = .ok (.iload_n 2, 1) := dk_28 (dk_at dksX3_check_0 14 rfl rfl)
theorem dX3_check_15 : decode cX3_check 15 = .ok (.invokevirtual 122, 3) := dk_182 0 122 (dk_at dksX3_check_0 15 rfl rfl)
theorem dX3_check_18 : decode cX3_check 18 = .ok (.ifCond .eq 9, 3) := dk_153 0 9 (dk_at dksX3_check_0 18 rfl rfl)
theorem dX3_check_21 : decode cX3_check 21 = .ok (.iinc 2 1, 3) := dk_132 2 1 (dk_at dksX3_check_0 21 rfl rfl)
theorem dX3_check_24 : decode cX3_check 24 = .ok (.goto (-22), 3) := dk_167 255 234 (dk_at dksX3_check_1 0 rfl rfl)
theorem dX3_check_27 : decode cX3_check 27 = .ok (.iload_n 2, 1) := dk_28 (dk_at dksX3_check_1 3 rfl rfl)
theorem dX3_check_28 : decode cX3_check 28 = .ok (.aload_n 0, 1) := dk_42 (dk_at dksX3_check_1 4 rfl rfl)
theorem dX3_check_29 : decode cX3_check 29 = .ok (.getfield 33, 3) := dk_180 0 33 (dk_at dksX3_check_1 5 rfl rfl)
theorem dX3_check_32 : decode cX3_check 32 = .ok (.invokevirtual 51, 3) := dk_182 0 51 (dk_at dksX3_check_1 8 rfl rfl)
theorem dX3_check_35 : decode cX3_check 35 = .ok (.if_icmp .ne 7, 3) := dk_160 0 7 (dk_at dksX3_check_1 11 rfl rfl)
theorem dX3_check_38 : decode cX3_check 38 = .ok (.iconst 0, 1) := dk_3 (dk_at dksX3_check_1 14 rfl rfl)
theorem dX3_check_39 : decode cX3_check 39 = .ok (.goto 6, 3) := dk_167 0 6 (dk_at dksX3_check_1 15 rfl rfl)
theorem dX3_check_42 : decode cX3_check 42 = .ok (.iload_n 2, 1) := dk_28 (dk_at dksX3_check_1 18 rfl rfl)
theorem dX3_check_43 : decode cX3_check 43 = .ok (.iconst 1, 1) := dk_4 (dk_at dksX3_check_1 19 rfl rfl)
theorem dX3_check_44 : decode cX3_check 44 = .ok (.iadd, 1) := dk_96 (dk_at dksX3_check_1 20 rfl rfl)
theorem dX3_check_45 : decode cX3_check 45 = .ok (.ireturn, 1) := dk_172 (dk_at dksX3_check_1 21 rfl rfl)
abbrev cX3_isSound : ByteArray := prog_49_method_12_code
def yX3_isSound : MethodName := ⟨RX3, "isSound", "(I)Z"⟩
def dkwX3_isSound_2 : List UInt8 := [180, 0, 44, 21, 4, 51, 160, 0, 7, 4, 167, 0, 4, 3, 62, 132, 4, 1, 167, 255, 219, 29, 172]
abbrev dktX3_isSound_2 : List UInt8 := dkwX3_isSound_2 ++ []
def dkwX3_isSound_1 : List UInt8 := [3, 54, 4, 21, 4, 16, 32, 162, 0, 36, 29, 153, 0, 32, 44, 16, 41, 21, 4, 96, 51, 42]
abbrev dktX3_isSound_1 : List UInt8 := dkwX3_isSound_1 ++ dktX3_isSound_2
def dkwX3_isSound_0 : List UInt8 := [42, 27, 42, 180, 0, 44, 3, 182, 0, 92, 42, 180, 0, 33, 27, 182, 0, 55, 192, 0, 59, 77, 4, 62]
abbrev dktX3_isSound_0 : List UInt8 := dkwX3_isSound_0 ++ dktX3_isSound_1
theorem dksX3_isSound_0 : cX3_isSound.data.toList.drop 0 = dktX3_isSound_0 := by decide +kernel
theorem dksX3_isSound_1 : cX3_isSound.data.toList.drop 24 = dktX3_isSound_1 := dk_seg dksX3_isSound_0 24 rfl rfl
theorem dksX3_isSound_2 : cX3_isSound.data.toList.drop 46 = dktX3_isSound_2 := dk_seg dksX3_isSound_1 22 rfl rfl
theorem dX3_isSound_0 : decode cX3_isSound 0 = .ok (.aload_n 0, 1) := dk_42 (dk_at dksX3_isSound_0 0 rfl rfl)
theorem dX3_isSound_1 : decode cX3_isSound 1 = .ok (.iload_n 1, 1) := dk_27 (dk_at dksX3_isSound_0 1 rfl rfl)
theorem dX3_isSound_2 : decode cX3_isSound 2 = .ok (.aload_n 0, 1) := dk_42 (dk_at dksX3_isSound_0 2 rfl rfl)
theorem dX3_isSound_3 : decode cX3_isSound 3 = .ok (.getfield 44, 3) := dk_180 0 44 (dk_at dksX3_isSound_0 3 rfl rfl)
theorem dX3_isSound_6 : decode cX3_isSound 6 = .ok (.iconst 0, 1) := dk_3 (dk_at dksX3_isSound_0 6 rfl rfl)
theorem dX3_isSound_7 : decode cX3_isSound 7 = .ok (.invokevirtual 92, 3) := dk_182 0 92 (dk_at dksX3_isSound_0 7 rfl rfl)
theorem dX3_isSound_10 : decode cX3_isSound 10 = .ok (.aload_n 0, 1) := dk_42 (dk_at dksX3_isSound_0 10 rfl rfl)
theorem dX3_isSound_11 : decode cX3_isSound 11 = .ok (.getfield 33, 3) := dk_180 0 33 (dk_at dksX3_isSound_0 11 rfl rfl)
theorem dX3_isSound_14 : decode cX3_isSound 14 = .ok (.iload_n 1, 1) := dk_27 (dk_at dksX3_isSound_0 14 rfl rfl)
theorem dX3_isSound_15 : decode cX3_isSound 15 = .ok (.invokevirtual 55, 3) := dk_182 0 55 (dk_at dksX3_isSound_0 15 rfl rfl)
theorem dX3_isSound_18 : decode cX3_isSound 18 = .ok (.checkcast 59, 3) := dk_192 0 59 (dk_at dksX3_isSound_0 18 rfl rfl)
theorem dX3_isSound_21 : decode cX3_isSound 21 = .ok (.astore_n 2, 1) := dk_77 (dk_at dksX3_isSound_0 21 rfl rfl)
theorem dX3_isSound_22 : decode cX3_isSound 22 = .ok (.iconst 1, 1) := dk_4 (dk_at dksX3_isSound_0 22 rfl rfl)
theorem dX3_isSound_23 : decode cX3_isSound 23 = .ok (.istore_n 3, 1) := dk_62 (dk_at dksX3_isSound_0 23 rfl rfl)
theorem dX3_isSound_24 : decode cX3_isSound 24 = .ok (.iconst 0, 1) := dk_3 (dk_at dksX3_isSound_1 0 rfl rfl)
theorem dX3_isSound_25 : decode cX3_isSound 25 = .ok (.istore 4, 2) := dk_54 4 (dk_at dksX3_isSound_1 1 rfl rfl)
theorem dX3_isSound_27 : decode cX3_isSound 27 = .ok (.iload 4, 2) := dk_21 4 (dk_at dksX3_isSound_1 3 rfl rfl)
theorem dX3_isSound_29 : decode cX3_isSound 29 = .ok (.bipush 32, 2) := dk_16 32 (dk_at dksX3_isSound_1 5 rfl rfl)
theorem dX3_isSound_31 : decode cX3_isSound 31 = .ok (.if_icmp .ge 36, 3) := dk_162 0 36 (dk_at dksX3_isSound_1 7 rfl rfl)
theorem dX3_isSound_34 : decode cX3_isSound 34 = .ok (.iload_n 3, 1) := dk_29 (dk_at dksX3_isSound_1 10 rfl rfl)
theorem dX3_isSound_35 : decode cX3_isSound 35 = .ok (.ifCond .eq 32, 3) := dk_153 0 32 (dk_at dksX3_isSound_1 11 rfl rfl)
theorem dX3_isSound_38 : decode cX3_isSound 38 = .ok (.aload_n 2, 1) := dk_44 (dk_at dksX3_isSound_1 14 rfl rfl)
theorem dX3_isSound_39 : decode cX3_isSound 39 = .ok (.bipush 41, 2) := dk_16 41 (dk_at dksX3_isSound_1 15 rfl rfl)
theorem dX3_isSound_41 : decode cX3_isSound 41 = .ok (.iload 4, 2) := dk_21 4 (dk_at dksX3_isSound_1 17 rfl rfl)
theorem dX3_isSound_43 : decode cX3_isSound 43 = .ok (.iadd, 1) := dk_96 (dk_at dksX3_isSound_1 19 rfl rfl)
theorem dX3_isSound_44 : decode cX3_isSound 44 = .ok (.baload, 1) := dk_51 (dk_at dksX3_isSound_1 20 rfl rfl)
theorem dX3_isSound_45 : decode cX3_isSound 45 = .ok (.aload_n 0, 1) := dk_42 (dk_at dksX3_isSound_1 21 rfl rfl)
theorem dX3_isSound_46 : decode cX3_isSound 46 = .ok (.getfield 44, 3) := dk_180 0 44 (dk_at dksX3_isSound_2 0 rfl rfl)
theorem dX3_isSound_49 : decode cX3_isSound 49 = .ok (.iload 4, 2) := dk_21 4 (dk_at dksX3_isSound_2 3 rfl rfl)
theorem dX3_isSound_51 : decode cX3_isSound 51 = .ok (.baload, 1) := dk_51 (dk_at dksX3_isSound_2 5 rfl rfl)
theorem dX3_isSound_52 : decode cX3_isSound 52 = .ok (.if_icmp .ne 7, 3) := dk_160 0 7 (dk_at dksX3_isSound_2 6 rfl rfl)
theorem dX3_isSound_55 : decode cX3_isSound 55 = .ok (.iconst 1, 1) := dk_4 (dk_at dksX3_isSound_2 9 rfl rfl)
theorem dX3_isSound_56 : decode cX3_isSound 56 = .ok (.goto 4, 3) := dk_167 0 4 (dk_at dksX3_isSound_2 10 rfl rfl)
theorem dX3_isSound_59 : decode cX3_isSound 59 = .ok (.iconst 0, 1) := dk_3 (dk_at dksX3_isSound_2 13 rfl rfl)
theorem dX3_isSound_60 : decode cX3_isSound 60 = .ok (.istore_n 3, 1) := dk_62 (dk_at dksX3_isSound_2 14 rfl rfl)
theorem dX3_isSound_61 : decode cX3_isSound 61 = .ok (.iinc 4 1, 3) := dk_132 4 1 (dk_at dksX3_isSound_2 15 rfl rfl)
theorem dX3_isSound_64 : decode cX3_isSound 64 = .ok (.goto (-37), 3) := dk_167 255 219 (dk_at dksX3_isSound_2 18 rfl rfl)
theorem dX3_isSound_67 : decode cX3_isSound 67 = .ok (.iload_n 3, 1) := dk_29 (dk_at dksX3_isSound_2 21 rfl rfl)
theorem dX3_isSound_68 : decode cX3_isSound 68 = .ok (.ireturn, 1) := dk_172 (dk_at dksX3_isSound_2 22 rfl rfl)
abbrev cX3_correction : ByteArray := prog_49_method_8_code
def yX3_correction : MethodName := ⟨RX3, "correction", "(LWasteHouse$TicketChain$Ticket;IJI)I"⟩
def dkwX3_correction_1 : List UInt8 := [25, 6, 21, 5, 182, 0, 80, 42, 43, 182, 0, 88, 172]
abbrev dktX3_correction_1 : List UInt8 := dkwX3_correction_1 ++ []
def dkwX3_correction_0 : List UInt8 := [42, 5, 43, 180, 0, 68, 182, 0, 74, 58, 6, 25, 6, 28, 182, 0, 80, 25, 6, 33, 182, 0, 84]
abbrev dktX3_correction_0 : List UInt8 := dkwX3_correction_0 ++ dktX3_correction_1
theorem dksX3_correction_0 : cX3_correction.data.toList.drop 0 = dktX3_correction_0 := by decide +kernel
theorem dksX3_correction_1 : cX3_correction.data.toList.drop 23 = dktX3_correction_1 := dk_seg dksX3_correction_0 23 rfl rfl
theorem dX3_correction_0 : decode cX3_correction 0 = .ok (.aload_n 0, 1) := dk_42 (dk_at dksX3_correction_0 0 rfl rfl)
theorem dX3_correction_1 : decode cX3_correction 1 = .ok (.iconst 2, 1) := dk_5 (dk_at dksX3_correction_0 1 rfl rfl)
theorem dX3_correction_2 : decode cX3_correction 2 = .ok (.aload_n 1, 1) := dk_43 (dk_at dksX3_correction_0 2 rfl rfl)
theorem dX3_correction_3 : decode cX3_correction 3 = .ok (.getfield 68, 3) := dk_180 0 68 (dk_at dksX3_correction_0 3 rfl rfl)
theorem dX3_correction_6 : decode cX3_correction 6 = .ok (.invokevirtual 74, 3) := dk_182 0 74 (dk_at dksX3_correction_0 6 rfl rfl)
theorem dX3_correction_9 : decode cX3_correction 9 = .ok (.astore 6, 2) := dk_58 6 (dk_at dksX3_correction_0 9 rfl rfl)
theorem dX3_correction_11 : decode cX3_correction 11 = .ok (.aload 6, 2) := dk_25 6 (dk_at dksX3_correction_0 11 rfl rfl)
theorem dX3_correction_13 : decode cX3_correction 13 = .ok (.iload_n 2, 1) := dk_28 (dk_at dksX3_correction_0 13 rfl rfl)
theorem dX3_correction_14 : decode cX3_correction 14 = .ok (.invokevirtual 80, 3) := dk_182 0 80 (dk_at dksX3_correction_0 14 rfl rfl)
theorem dX3_correction_17 : decode cX3_correction 17 = .ok (.aload 6, 2) := dk_25 6 (dk_at dksX3_correction_0 17 rfl rfl)
theorem dX3_correction_19 : decode cX3_correction 19 = .ok (.lload_n 3, 1) := dk_33 (dk_at dksX3_correction_0 19 rfl rfl)
theorem dX3_correction_20 : decode cX3_correction 20 = .ok (.invokevirtual 84, 3) := dk_182 0 84 (dk_at dksX3_correction_0 20 rfl rfl)
theorem dX3_correction_23 : decode cX3_correction 23 = .ok (.aload 6, 2) := dk_25 6 (dk_at dksX3_correction_1 0 rfl rfl)
theorem dX3_correction_25 : decode cX3_correction 25 = .ok (.iload 5, 2) := dk_21 5 (dk_at dksX3_correction_1 2 rfl rfl)
theorem dX3_correction_27 : decode cX3_correction 27 = .ok (.invokevirtual 80, 3) := dk_182 0 80 (dk_at dksX3_correction_1 4 rfl rfl)
theorem dX3_correction_30 : decode cX3_correction 30 = .ok (.aload_n 0, 1) := dk_42 (dk_at dksX3_correction_1 7 rfl rfl)
theorem dX3_correction_31 : decode cX3_correction 31 = .ok (.aload_n 1, 1) := dk_43 (dk_at dksX3_correction_1 8 rfl rfl)
theorem dX3_correction_32 : decode cX3_correction 32 = .ok (.invokevirtual 88, 3) := dk_182 0 88 (dk_at dksX3_correction_1 9 rfl rfl)
theorem dX3_correction_35 : decode cX3_correction 35 = .ok (.ireturn, 1) := dk_172 (dk_at dksX3_correction_1 12 rfl rfl)
abbrev cX3_makeVoid : ByteArray := prog_49_method_9_code
def yX3_makeVoid : MethodName := ⟨RX3, "makeVoid", "(LWasteHouse$TicketChain$Ticket;I)I"⟩
def dkwX3_makeVoid_0 : List UInt8 := [42, 6, 43, 180, 0, 68, 182, 0, 74, 28, 182, 0, 80, 42, 43, 182, 0, 88, 172]
abbrev dktX3_makeVoid_0 : List UInt8 := dkwX3_makeVoid_0 ++ []
theorem dksX3_makeVoid_0 : cX3_makeVoid.data.toList.drop 0 = dktX3_makeVoid_0 := by decide +kernel
theorem dX3_makeVoid_0 : decode cX3_makeVoid 0 = .ok (.aload_n 0, 1) := dk_42 (dk_at dksX3_makeVoid_0 0 rfl rfl)
theorem dX3_makeVoid_1 : decode cX3_makeVoid 1 = .ok (.iconst 3, 1) := dk_6 (dk_at dksX3_makeVoid_0 1 rfl rfl)
theorem dX3_makeVoid_2 : decode cX3_makeVoid 2 = .ok (.aload_n 1, 1) := dk_43 (dk_at dksX3_makeVoid_0 2 rfl rfl)
theorem dX3_makeVoid_3 : decode cX3_makeVoid 3 = .ok (.getfield 68, 3) := dk_180 0 68 (dk_at dksX3_makeVoid_0 3 rfl rfl)
theorem dX3_makeVoid_6 : decode cX3_makeVoid 6 = .ok (.invokevirtual 74, 3) := dk_182 0 74 (dk_at dksX3_makeVoid_0 6 rfl rfl)
theorem dX3_makeVoid_9 : decode cX3_makeVoid 9 = .ok (.iload_n 2, 1) := dk_28 (dk_at dksX3_makeVoid_0 9 rfl rfl)
theorem dX3_makeVoid_10 : decode cX3_makeVoid 10 = .ok (.invokevirtual 80, 3) := dk_182 0 80 (dk_at dksX3_makeVoid_0 10 rfl rfl)
theorem dX3_makeVoid_13 : decode cX3_makeVoid 13 = .ok (.aload_n 0, 1) := dk_42 (dk_at dksX3_makeVoid_0 13 rfl rfl)
theorem dX3_makeVoid_14 : decode cX3_makeVoid 14 = .ok (.aload_n 1, 1) := dk_43 (dk_at dksX3_makeVoid_0 14 rfl rfl)
theorem dX3_makeVoid_15 : decode cX3_makeVoid 15 = .ok (.invokevirtual 88, 3) := dk_182 0 88 (dk_at dksX3_makeVoid_0 15 rfl rfl)
theorem dX3_makeVoid_18 : decode cX3_makeVoid 18 = .ok (.ireturn, 1) := dk_172 (dk_at dksX3_makeVoid_0 18 rfl rfl)
abbrev cX3_isRow : ByteArray := prog_49_method_4_code
def yX3_isRow : MethodName := ⟨RX3, "isRow", "(I)Z"⟩
def dkwX3_isRow_0 : List UInt8 := [27, 155, 0, 18, 27, 42, 180, 0, 33, 182, 0, 51, 162, 0, 7, 4, 167, 0, 4, 3, 172]
abbrev dktX3_isRow_0 : List UInt8 := dkwX3_isRow_0 ++ []
theorem dksX3_isRow_0 : cX3_isRow.data.toList.drop 0 = dktX3_isRow_0 := by decide +kernel
theorem dX3_isRow_0 : decode cX3_isRow 0 = .ok (.iload_n 1, 1) := dk_27 (dk_at dksX3_isRow_0 0 rfl rfl)
theorem dX3_isRow_1 : decode cX3_isRow 1 = .ok (.ifCond .lt 18, 3) := dk_155 0 18 (dk_at dksX3_isRow_0 1 rfl rfl)
theorem dX3_isRow_4 : decode cX3_isRow 4 = .ok (.iload_n 1, 1) := dk_27 (dk_at dksX3_isRow_0 4 rfl rfl)
theorem dX3_isRow_5 : decode cX3_isRow 5 = .ok (.aload_n 0, 1) := dk_42 (dk_at dksX3_isRow_0 5 rfl rfl)
theorem dX3_isRow_6 : decode cX3_isRow 6 = .ok (.getfield 33, 3) := dk_180 0 33 (dk_at dksX3_isRow_0 6 rfl rfl)
theorem dX3_isRow_9 : decode cX3_isRow 9 = .ok (.invokevirtual 51, 3) := dk_182 0 51 (dk_at dksX3_isRow_0 9 rfl rfl)
theorem dX3_isRow_12 : decode cX3_isRow 12 = .ok (.if_icmp .ge 7, 3) := dk_162 0 7 (dk_at dksX3_isRow_0 12 rfl rfl)
theorem dX3_isRow_15 : decode cX3_isRow 15 = .ok (.iconst 1, 1) := dk_4 (dk_at dksX3_isRow_0 15 rfl rfl)
theorem dX3_isRow_16 : decode cX3_isRow 16 = .ok (.goto 4, 3) := dk_167 0 4 (dk_at dksX3_isRow_0 16 rfl rfl)
theorem dX3_isRow_19 : decode cX3_isRow 19 = .ok (.iconst 0, 1) := dk_3 (dk_at dksX3_isRow_0 19 rfl rfl)
theorem dX3_isRow_20 : decode cX3_isRow 20 = .ok (.ireturn, 1) := dk_172 (dk_at dksX3_isRow_0 20 rfl rfl)
abbrev cX3_row : ByteArray := prog_49_method_5_code
def yX3_row : MethodName := ⟨RX3, "row", "(I)[B"⟩
def dkwX3_row_0 : List UInt8 := [42, 180, 0, 33, 27, 182, 0, 55, 192, 0, 59, 176]
abbrev dktX3_row_0 : List UInt8 := dkwX3_row_0 ++ []
theorem dksX3_row_0 : cX3_row.data.toList.drop 0 = dktX3_row_0 := by decide +kernel
theorem dX3_row_0 : decode cX3_row 0 = .ok (.aload_n 0, 1) := dk_42 (dk_at dksX3_row_0 0 rfl rfl)
theorem dX3_row_1 : decode cX3_row 1 = .ok (.getfield 33, 3) := dk_180 0 33 (dk_at dksX3_row_0 1 rfl rfl)
theorem dX3_row_4 : decode cX3_row 4 = .ok (.iload_n 1, 1) := dk_27 (dk_at dksX3_row_0 4 rfl rfl)
theorem dX3_row_5 : decode cX3_row 5 = .ok (.invokevirtual 55, 3) := dk_182 0 55 (dk_at dksX3_row_0 5 rfl rfl)
theorem dX3_row_8 : decode cX3_row 8 = .ok (.checkcast 59, 3) := dk_192 0 59 (dk_at dksX3_row_0 8 rfl rfl)
theorem dX3_row_11 : decode cX3_row 11 = .ok (.areturn, 1) := dk_176 (dk_at dksX3_row_0 11 rfl rfl)
abbrev cX3_root : ByteArray := prog_49_method_14_code
def yX3_root : MethodName := ⟨RX3, "root", "(I)Z"⟩
def dkwX3_root_7 : List UInt8 := [5, 108, 104, 16, 32, 184, 0, 140, 29, 4, 96, 5, 108, 62, 167, 255, 153, 4, 172]
abbrev dktX3_root_7 : List UInt8 := dkwX3_root_7 ++ []
def dkwX3_root_6 : List UInt8 := [29, 5, 112, 4, 160, 0, 28, 42, 180, 0, 48, 16, 32, 29, 4, 100, 104, 42, 180, 0, 48, 16, 32, 29]
abbrev dktX3_root_6 : List UInt8 := dkwX3_root_6 ++ dktX3_root_7
def dkwX3_root_5 : List UInt8 := [42, 180, 0, 17, 42, 180, 0, 48, 16, 32, 21, 4, 5, 108, 104, 182, 0, 118, 132, 4, 2, 167, 255, 202]
abbrev dktX3_root_5 : List UInt8 := dkwX3_root_5 ++ dktX3_root_6
def dkwX3_root_4 : List UInt8 := [180, 0, 17, 182, 0, 111, 42, 180, 0, 17, 42, 180, 0, 48, 16, 32, 21, 4, 104, 16, 64, 182, 0, 113]
abbrev dktX3_root_4 : List UInt8 := dkwX3_root_4 ++ dktX3_root_5
def dkwX3_root_3 : List UInt8 := [132, 3, 1, 167, 255, 214, 29, 4, 164, 0, 104, 3, 54, 4, 21, 4, 4, 96, 29, 162, 0, 52, 42]
abbrev dktX3_root_3 : List UInt8 := dkwX3_root_3 ++ dktX3_root_4
def dkwX3_root_2 : List UInt8 := [192, 0, 59, 58, 5, 25, 5, 16, 41, 42, 180, 0, 48, 16, 32, 29, 104, 16, 32, 184, 0, 140]
abbrev dktX3_root_2 : List UInt8 := dkwX3_root_2 ++ dktX3_root_3
def dkwX3_root_1 : List UInt8 := [182, 0, 126, 58, 4, 25, 4, 185, 0, 130, 1, 0, 153, 0, 38, 25, 4, 185, 0, 136, 1, 0]
abbrev dktX3_root_1 : List UInt8 := dkwX3_root_1 ++ dktX3_root_2
def dkwX3_root_0 : List UInt8 := [42, 180, 0, 40, 27, 184, 0, 98, 182, 0, 104, 192, 0, 30, 77, 44, 199, 0, 5, 3, 172, 3, 62, 44]
abbrev dktX3_root_0 : List UInt8 := dkwX3_root_0 ++ dktX3_root_1
theorem dksX3_root_0 : cX3_root.data.toList.drop 0 = dktX3_root_0 := by decide +kernel
theorem dksX3_root_1 : cX3_root.data.toList.drop 24 = dktX3_root_1 := dk_seg dksX3_root_0 24 rfl rfl
theorem dksX3_root_2 : cX3_root.data.toList.drop 46 = dktX3_root_2 := dk_seg dksX3_root_1 22 rfl rfl
theorem dksX3_root_3 : cX3_root.data.toList.drop 68 = dktX3_root_3 := dk_seg dksX3_root_2 22 rfl rfl
theorem dksX3_root_4 : cX3_root.data.toList.drop 91 = dktX3_root_4 := dk_seg dksX3_root_3 23 rfl rfl
theorem dksX3_root_5 : cX3_root.data.toList.drop 115 = dktX3_root_5 := dk_seg dksX3_root_4 24 rfl rfl
theorem dksX3_root_6 : cX3_root.data.toList.drop 139 = dktX3_root_6 := dk_seg dksX3_root_5 24 rfl rfl
theorem dksX3_root_7 : cX3_root.data.toList.drop 163 = dktX3_root_7 := dk_seg dksX3_root_6 24 rfl rfl
theorem dX3_root_0 : decode cX3_root 0 = .ok (.aload_n 0, 1) := dk_42 (dk_at dksX3_root_0 0 rfl rfl)
theorem dX3_root_1 : decode cX3_root 1 = .ok (.getfield 40, 3) := dk_180 0 40 (dk_at dksX3_root_0 1 rfl rfl)
theorem dX3_root_4 : decode cX3_root 4 = .ok (.iload_n 1, 1) := dk_27 (dk_at dksX3_root_0 4 rfl rfl)
theorem dX3_root_5 : decode cX3_root 5 = .ok (.invokestatic 98, 3) := dk_184 0 98 (dk_at dksX3_root_0 5 rfl rfl)
theorem dX3_root_8 : decode cX3_root 8 = .ok (.invokevirtual 104, 3) := dk_182 0 104 (dk_at dksX3_root_0 8 rfl rfl)
theorem dX3_root_11 : decode cX3_root 11 = .ok (.checkcast 30, 3) := dk_192 0 30 (dk_at dksX3_root_0 11 rfl rfl)
theorem dX3_root_14 : decode cX3_root 14 = .ok (.astore_n 2, 1) := dk_77 (dk_at dksX3_root_0 14 rfl rfl)
theorem dX3_root_15 : decode cX3_root 15 = .ok (.aload_n 2, 1) := dk_44 (dk_at dksX3_root_0 15 rfl rfl)
theorem dX3_root_16 : decode cX3_root 16 = .ok (.ifnonnull 5, 3) := dk_199 0 5 (dk_at dksX3_root_0 16 rfl rfl)
theorem dX3_root_19 : decode cX3_root 19 = .ok (.iconst 0, 1) := dk_3 (dk_at dksX3_root_0 19 rfl rfl)
theorem dX3_root_20 : decode cX3_root 20 = .ok (.ireturn, 1) := dk_172 (dk_at dksX3_root_0 20 rfl rfl)
theorem dX3_root_21 : decode cX3_root 21 = .ok (.iconst 0, 1) := dk_3 (dk_at dksX3_root_0 21 rfl rfl)
theorem dX3_root_22 : decode cX3_root 22 = .ok (.istore_n 3, 1) := dk_62 (dk_at dksX3_root_0 22 rfl rfl)
theorem dX3_root_23 : decode cX3_root 23 = .ok (.aload_n 2, 1) := dk_44 (dk_at dksX3_root_0 23 rfl rfl)
theorem dX3_root_24 : decode cX3_root 24 = .ok (.invokevirtual 126, 3) := dk_182 0 126 (dk_at dksX3_root_1 0 rfl rfl)
theorem dX3_root_27 : decode cX3_root 27 = .ok (.astore 4, 2) := dk_58 4 (dk_at dksX3_root_1 3 rfl rfl)
theorem dX3_root_29 : decode cX3_root 29 = .ok (.aload 4, 2) := dk_25 4 (dk_at dksX3_root_1 5 rfl rfl)
theorem dX3_root_31 : decode cX3_root 31 = .ok (.invokeinterface 130 1, 5) := by decide +kernel
theorem dX3_root_36 : decode cX3_root 36 = .ok (.ifCond .eq 38, 3) := dk_153 0 38 (dk_at dksX3_root_1 12 rfl rfl)
theorem dX3_root_39 : decode cX3_root 39 = .ok (.aload 4, 2) := dk_25 4 (dk_at dksX3_root_1 15 rfl rfl)
theorem dX3_root_41 : decode cX3_root 41 = .ok (.invokeinterface 136 1, 5) := by decide +kernel
theorem dX3_root_46 : decode cX3_root 46 = .ok (.checkcast 59, 3) := dk_192 0 59 (dk_at dksX3_root_2 0 rfl rfl)
theorem dX3_root_49 : decode cX3_root 49 = .ok (.astore 5, 2) := dk_58 5 (dk_at dksX3_root_2 3 rfl rfl)
theorem dX3_root_51 : decode cX3_root 51 = .ok (.aload 5, 2) := dk_25 5 (dk_at dksX3_root_2 5 rfl rfl)
theorem dX3_root_53 : decode cX3_root 53 = .ok (.bipush 41, 2) := dk_16 41 (dk_at dksX3_root_2 7 rfl rfl)
theorem dX3_root_55 : decode cX3_root 55 = .ok (.aload_n 0, 1) := dk_42 (dk_at dksX3_root_2 9 rfl rfl)
theorem dX3_root_56 : decode cX3_root 56 = .ok (.getfield 48, 3) := dk_180 0 48 (dk_at dksX3_root_2 10 rfl rfl)
theorem dX3_root_59 : decode cX3_root 59 = .ok (.bipush 32, 2) := dk_16 32 (dk_at dksX3_root_2 13 rfl rfl)
theorem dX3_root_61 : decode cX3_root 61 = .ok (.iload_n 3, 1) := dk_29 (dk_at dksX3_root_2 15 rfl rfl)
theorem dX3_root_62 : decode cX3_root 62 = .ok (.imul, 1) := dk_104 (dk_at dksX3_root_2 16 rfl rfl)
theorem dX3_root_63 : decode cX3_root 63 = .ok (.bipush 32, 2) := dk_16 32 (dk_at dksX3_root_2 17 rfl rfl)
theorem dX3_root_65 : decode cX3_root 65 = .ok (.invokestatic 140, 3) := dk_184 0 140 (dk_at dksX3_root_2 19 rfl rfl)
theorem dX3_root_68 : decode cX3_root 68 = .ok (.iinc 3 1, 3) := dk_132 3 1 (dk_at dksX3_root_3 0 rfl rfl)
theorem dX3_root_71 : decode cX3_root 71 = .ok (.goto (-42), 3) := dk_167 255 214 (dk_at dksX3_root_3 3 rfl rfl)
theorem dX3_root_74 : decode cX3_root 74 = .ok (.iload_n 3, 1) := dk_29 (dk_at dksX3_root_3 6 rfl rfl)
theorem dX3_root_75 : decode cX3_root 75 = .ok (.iconst 1, 1) := dk_4 (dk_at dksX3_root_3 7 rfl rfl)
theorem dX3_root_76 : decode cX3_root 76 = .ok (.if_icmp .le 104, 3) := dk_164 0 104 (dk_at dksX3_root_3 8 rfl rfl)
theorem dX3_root_79 : decode cX3_root 79 = .ok (.iconst 0, 1) := dk_3 (dk_at dksX3_root_3 11 rfl rfl)
theorem dX3_root_80 : decode cX3_root 80 = .ok (.istore 4, 2) := dk_54 4 (dk_at dksX3_root_3 12 rfl rfl)
theorem dX3_root_82 : decode cX3_root 82 = .ok (.iload 4, 2) := dk_21 4 (dk_at dksX3_root_3 14 rfl rfl)
theorem dX3_root_84 : decode cX3_root 84 = .ok (.iconst 1, 1) := dk_4 (dk_at dksX3_root_3 16 rfl rfl)
theorem dX3_root_85 : decode cX3_root 85 = .ok (.iadd, 1) := dk_96 (dk_at dksX3_root_3 17 rfl rfl)
theorem dX3_root_86 : decode cX3_root 86 = .ok (.iload_n 3, 1) := dk_29 (dk_at dksX3_root_3 18 rfl rfl)
theorem dX3_root_87 : decode cX3_root 87 = .ok (.if_icmp .ge 52, 3) := dk_162 0 52 (dk_at dksX3_root_3 19 rfl rfl)
theorem dX3_root_90 : decode cX3_root 90 = .ok (.aload_n 0, 1) := dk_42 (dk_at dksX3_root_3 22 rfl rfl)
theorem dX3_root_91 : decode cX3_root 91 = .ok (.getfield 17, 3) := dk_180 0 17 (dk_at dksX3_root_4 0 rfl rfl)
theorem dX3_root_94 : decode cX3_root 94 = .ok (.invokevirtual 111, 3) := dk_182 0 111 (dk_at dksX3_root_4 3 rfl rfl)
theorem dX3_root_97 : decode cX3_root 97 = .ok (.aload_n 0, 1) := dk_42 (dk_at dksX3_root_4 6 rfl rfl)
theorem dX3_root_98 : decode cX3_root 98 = .ok (.getfield 17, 3) := dk_180 0 17 (dk_at dksX3_root_4 7 rfl rfl)
theorem dX3_root_101 : decode cX3_root 101 = .ok (.aload_n 0, 1) := dk_42 (dk_at dksX3_root_4 10 rfl rfl)
theorem dX3_root_102 : decode cX3_root 102 = .ok (.getfield 48, 3) := dk_180 0 48 (dk_at dksX3_root_4 11 rfl rfl)
theorem dX3_root_105 : decode cX3_root 105 = .ok (.bipush 32, 2) := dk_16 32 (dk_at dksX3_root_4 14 rfl rfl)
theorem dX3_root_107 : decode cX3_root 107 = .ok (.iload 4, 2) := dk_21 4 (dk_at dksX3_root_4 16 rfl rfl)
theorem dX3_root_109 : decode cX3_root 109 = .ok (.imul, 1) := dk_104 (dk_at dksX3_root_4 18 rfl rfl)
theorem dX3_root_110 : decode cX3_root 110 = .ok (.bipush 64, 2) := dk_16 64 (dk_at dksX3_root_4 19 rfl rfl)
theorem dX3_root_112 : decode cX3_root 112 = .ok (.invokevirtual 113, 3) := dk_182 0 113 (dk_at dksX3_root_4 21 rfl rfl)
theorem dX3_root_115 : decode cX3_root 115 = .ok (.aload_n 0, 1) := dk_42 (dk_at dksX3_root_5 0 rfl rfl)
theorem dX3_root_116 : decode cX3_root 116 = .ok (.getfield 17, 3) := dk_180 0 17 (dk_at dksX3_root_5 1 rfl rfl)
theorem dX3_root_119 : decode cX3_root 119 = .ok (.aload_n 0, 1) := dk_42 (dk_at dksX3_root_5 4 rfl rfl)
theorem dX3_root_120 : decode cX3_root 120 = .ok (.getfield 48, 3) := dk_180 0 48 (dk_at dksX3_root_5 5 rfl rfl)
theorem dX3_root_123 : decode cX3_root 123 = .ok (.bipush 32, 2) := dk_16 32 (dk_at dksX3_root_5 8 rfl rfl)
theorem dX3_root_125 : decode cX3_root 125 = .ok (.iload 4, 2) := dk_21 4 (dk_at dksX3_root_5 10 rfl rfl)
theorem dX3_root_127 : decode cX3_root 127 = .ok (.iconst 2, 1) := dk_5 (dk_at dksX3_root_5 12 rfl rfl)
theorem dX3_root_128 : decode cX3_root 128 = .ok (.idiv, 1) := dk_108 (dk_at dksX3_root_5 13 rfl rfl)
theorem dX3_root_129 : decode cX3_root 129 = .ok (.imul, 1) := dk_104 (dk_at dksX3_root_5 14 rfl rfl)
theorem dX3_root_130 : decode cX3_root 130 = .ok (.invokevirtual 118, 3) := dk_182 0 118 (dk_at dksX3_root_5 15 rfl rfl)
theorem dX3_root_133 : decode cX3_root 133 = .ok (.iinc 4 2, 3) := dk_132 4 2 (dk_at dksX3_root_5 18 rfl rfl)
theorem dX3_root_136 : decode cX3_root 136 = .ok (.goto (-54), 3) := dk_167 255 202 (dk_at dksX3_root_5 21 rfl rfl)
theorem dX3_root_139 : decode cX3_root 139 = .ok (.iload_n 3, 1) := dk_29 (dk_at dksX3_root_6 0 rfl rfl)
theorem dX3_root_140 : decode cX3_root 140 = .ok (.iconst 2, 1) := dk_5 (dk_at dksX3_root_6 1 rfl rfl)
theorem dX3_root_141 : decode cX3_root 141 = .ok (.irem, 1) := dk_112 (dk_at dksX3_root_6 2 rfl rfl)
theorem dX3_root_142 : decode cX3_root 142 = .ok (.iconst 1, 1) := dk_4 (dk_at dksX3_root_6 3 rfl rfl)
theorem dX3_root_143 : decode cX3_root 143 = .ok (.if_icmp .ne 28, 3) := dk_160 0 28 (dk_at dksX3_root_6 4 rfl rfl)
theorem dX3_root_146 : decode cX3_root 146 = .ok (.aload_n 0, 1) := dk_42 (dk_at dksX3_root_6 7 rfl rfl)
theorem dX3_root_147 : decode cX3_root 147 = .ok (.getfield 48, 3) := dk_180 0 48 (dk_at dksX3_root_6 8 rfl rfl)
theorem dX3_root_150 : decode cX3_root 150 = .ok (.bipush 32, 2) := dk_16 32 (dk_at dksX3_root_6 11 rfl rfl)
theorem dX3_root_152 : decode cX3_root 152 = .ok (.iload_n 3, 1) := dk_29 (dk_at dksX3_root_6 13 rfl rfl)
theorem dX3_root_153 : decode cX3_root 153 = .ok (.iconst 1, 1) := dk_4 (dk_at dksX3_root_6 14 rfl rfl)
theorem dX3_root_154 : decode cX3_root 154 = .ok (.isub, 1) := dk_100 (dk_at dksX3_root_6 15 rfl rfl)
theorem dX3_root_155 : decode cX3_root 155 = .ok (.imul, 1) := dk_104 (dk_at dksX3_root_6 16 rfl rfl)
theorem dX3_root_156 : decode cX3_root 156 = .ok (.aload_n 0, 1) := dk_42 (dk_at dksX3_root_6 17 rfl rfl)
theorem dX3_root_157 : decode cX3_root 157 = .ok (.getfield 48, 3) := dk_180 0 48 (dk_at dksX3_root_6 18 rfl rfl)
theorem dX3_root_160 : decode cX3_root 160 = .ok (.bipush 32, 2) := dk_16 32 (dk_at dksX3_root_6 21 rfl rfl)
theorem dX3_root_162 : decode cX3_root 162 = .ok (.iload_n 3, 1) := dk_29 (dk_at dksX3_root_6 23 rfl rfl)
theorem dX3_root_163 : decode cX3_root 163 = .ok (.iconst 2, 1) := dk_5 (dk_at dksX3_root_7 0 rfl rfl)
theorem dX3_root_164 : decode cX3_root 164 = .ok (.idiv, 1) := dk_108 (dk_at dksX3_root_7 1 rfl rfl)
theorem dX3_root_165 : decode cX3_root 165 = .ok (.imul, 1) := dk_104 (dk_at dksX3_root_7 2 rfl rfl)
theorem dX3_root_166 : decode cX3_root 166 = .ok (.bipush 32, 2) := dk_16 32 (dk_at dksX3_root_7 3 rfl rfl)
theorem dX3_root_168 : decode cX3_root 168 = .ok (.invokestatic 140, 3) := dk_184 0 140 (dk_at dksX3_root_7 5 rfl rfl)
theorem dX3_root_171 : decode cX3_root 171 = .ok (.iload_n 3, 1) := dk_29 (dk_at dksX3_root_7 8 rfl rfl)
theorem dX3_root_172 : decode cX3_root 172 = .ok (.iconst 1, 1) := dk_4 (dk_at dksX3_root_7 9 rfl rfl)
theorem dX3_root_173 : decode cX3_root 173 = .ok (.iadd, 1) := dk_96 (dk_at dksX3_root_7 10 rfl rfl)
theorem dX3_root_174 : decode cX3_root 174 = .ok (.iconst 2, 1) := dk_5 (dk_at dksX3_root_7 11 rfl rfl)
theorem dX3_root_175 : decode cX3_root 175 = .ok (.idiv, 1) := dk_108 (dk_at dksX3_root_7 12 rfl rfl)
theorem dX3_root_176 : decode cX3_root 176 = .ok (.istore_n 3, 1) := dk_62 (dk_at dksX3_root_7 13 rfl rfl)
theorem dX3_root_177 : decode cX3_root 177 = .ok (.goto (-103), 3) := dk_167 255 153 (dk_at dksX3_root_7 14 rfl rfl)
theorem dX3_root_180 : decode cX3_root 180 = .ok (.iconst 1, 1) := dk_4 (dk_at dksX3_root_7 17 rfl rfl)
theorem dX3_root_181 : decode cX3_root 181 = .ok (.ireturn, 1) := dk_172 (dk_at dksX3_root_7 18 rfl rfl)
theorem q395 : (Jvm.Cond.initialized "WasteHouse$TicketChain$Chain") ∈ lw_all := lw_g (lw_at lw_m1 3 rfl) rfl
theorem q521 : (Jvm.Cond.instantiable "WasteHouse$TicketChain$Chain" (6 : Nat)) ∈ lw_all := lw_g (lw_at lw_m1 129 rfl) rfl
theorem q523 : (Jvm.Cond.instanceMethod ({ cls := "WasteHouse$TicketChain$Chain", name := "<init>", desc := "()V" } : Jvm.MethodName)) ∈ lw_all := lw_g (lw_at lw_m1 131 rfl) rfl
theorem q524 : (Jvm.Cond.code ({ cls := "WasteHouse$TicketChain$Chain", name := "<init>", desc := "()V" } : Jvm.MethodName) prog_49_method_1_code (1 : Nat) (Option.none : Option Jvm.ClassFile.FieldType)) ∈ lw_all := lw_g (lw_at lw_m1 132 rfl) rfl
theorem q525 : (Jvm.Cond.methodLink "WasteHouse$TicketChain$Chain" (3 : Nat) ({ cls := "java/lang/Object", name := "<init>", desc := "()V" } : Jvm.MethodName)) ∈ lw_all := lw_g (lw_at lw_m1 133 rfl) rfl
theorem q526 : (Jvm.Cond.classLink "WasteHouse$TicketChain$Chain" (9 : Nat) "WasteHouse$TicketChain$Sum") ∈ lw_all := lw_g (lw_at lw_m1 134 rfl) rfl
theorem q528 : (Jvm.Cond.classLink "WasteHouse$TicketChain$Chain" (11 : Nat) "WasteHouse$TicketChain$Fixed") ∈ lw_all := lw_g (lw_at lw_m1 136 rfl) rfl
theorem q530 : (Jvm.Cond.methodLink "WasteHouse$TicketChain$Chain" (13 : Nat) ({ cls := "WasteHouse$TicketChain$Fixed", name := "<init>", desc := "()V" } : Jvm.MethodName)) ∈ lw_all := lw_g (lw_at lw_m1 138 rfl) rfl
theorem q558 : (Jvm.Cond.methodLink "WasteHouse$TicketChain$Chain" (14 : Nat) ({ cls := "WasteHouse$TicketChain$Sum", name := "<init>", desc := "(LWasteHouse$TicketChain$Fixed;)V" } : Jvm.MethodName)) ∈ lw_all := lw_g (lw_at lw_m1 166 rfl) rfl
theorem q579 : (Jvm.Cond.classLink "WasteHouse$TicketChain$Chain" (23 : Nat) "WasteHouse$TicketChain$Writer") ∈ lw_all := lw_g (lw_at lw_m1 187 rfl) rfl
theorem q581 : (Jvm.Cond.methodLinkNest "WasteHouse$TicketChain$Chain" (25 : Nat) ({ cls := "WasteHouse$TicketChain$Writer", name := "<init>", desc := "()V" } : Jvm.MethodName) "WasteHouse") ∈ lw_tbl := lw_at lw_m1 189 rfl
theorem q592 : (Jvm.Cond.classLink "WasteHouse$TicketChain$Chain" (30 : Nat) "java/util/ArrayList") ∈ lw_all := lw_g (lw_at lw_m1 200 rfl) rfl
theorem q594 : (Jvm.Cond.methodLink "WasteHouse$TicketChain$Chain" (32 : Nat) ({ cls := "java/util/ArrayList", name := "<init>", desc := "()V" } : Jvm.MethodName)) ∈ lw_all := lw_g (lw_at lw_m1 202 rfl) rfl
theorem q621 : (Jvm.Cond.classLink "WasteHouse$TicketChain$Chain" (37 : Nat) "java/util/TreeMap") ∈ lw_all := lw_g (lw_at lw_m1 229 rfl) rfl
theorem q623 : (Jvm.Cond.methodLink "WasteHouse$TicketChain$Chain" (39 : Nat) ({ cls := "java/util/TreeMap", name := "<init>", desc := "()V" } : Jvm.MethodName)) ∈ lw_all := lw_g (lw_at lw_m1 231 rfl) rfl
theorem q657 : (Jvm.Cond.fieldLink "WasteHouse$TicketChain$Chain" (17 : Nat) "WasteHouse$TicketChain$Chain" "sum" "LWasteHouse$TicketChain$Sum;") ∈ lw_all := lw_g (lw_at lw_m2 25 rfl) rfl
theorem q658 : (Jvm.Cond.fieldLink "WasteHouse$TicketChain$Chain" (26 : Nat) "WasteHouse$TicketChain$Chain" "writer" "LWasteHouse$TicketChain$Writer;") ∈ lw_all := lw_g (lw_at lw_m2 26 rfl) rfl
theorem q659 : (Jvm.Cond.fieldLink "WasteHouse$TicketChain$Chain" (33 : Nat) "WasteHouse$TicketChain$Chain" "rows" "Ljava/util/ArrayList;") ∈ lw_all := lw_g (lw_at lw_m2 27 rfl) rfl
theorem q660 : (Jvm.Cond.fieldLink "WasteHouse$TicketChain$Chain" (40 : Nat) "WasteHouse$TicketChain$Chain" "days" "Ljava/util/TreeMap;") ∈ lw_all := lw_g (lw_at lw_m2 28 rfl) rfl
theorem q661 : (Jvm.Cond.fieldLink "WasteHouse$TicketChain$Chain" (44 : Nat) "WasteHouse$TicketChain$Chain" "due" "[B") ∈ lw_all := lw_g (lw_at lw_m2 29 rfl) rfl
theorem q662 : (Jvm.Cond.fieldLink "WasteHouse$TicketChain$Chain" (48 : Nat) "WasteHouse$TicketChain$Chain" "heap" "[B") ∈ lw_all := lw_g (lw_at lw_m2 30 rfl) rfl
theorem q664 : (Jvm.Cond.laysFinal "WasteHouse$TicketChain$Chain" "WasteHouse$TicketChain$Chain" "sum" "LWasteHouse$TicketChain$Sum;") ∈ lw_all := lw_g (lw_at lw_m2 32 rfl) rfl
theorem q665 : (Jvm.Cond.soleField "WasteHouse$TicketChain$Chain" "sum") ∈ lw_all := lw_g (lw_at lw_m2 33 rfl) rfl
theorem q666 : (Jvm.Cond.laysFinal "WasteHouse$TicketChain$Chain" "WasteHouse$TicketChain$Chain" "writer" "LWasteHouse$TicketChain$Writer;") ∈ lw_all := lw_g (lw_at lw_m2 34 rfl) rfl
theorem q667 : (Jvm.Cond.soleField "WasteHouse$TicketChain$Chain" "writer") ∈ lw_all := lw_g (lw_at lw_m2 35 rfl) rfl
theorem q668 : (Jvm.Cond.laysFinal "WasteHouse$TicketChain$Chain" "WasteHouse$TicketChain$Chain" "rows" "Ljava/util/ArrayList;") ∈ lw_all := lw_g (lw_at lw_m2 36 rfl) rfl
theorem q669 : (Jvm.Cond.soleField "WasteHouse$TicketChain$Chain" "rows") ∈ lw_all := lw_g (lw_at lw_m2 37 rfl) rfl
theorem q670 : (Jvm.Cond.laysFinal "WasteHouse$TicketChain$Chain" "WasteHouse$TicketChain$Chain" "days" "Ljava/util/TreeMap;") ∈ lw_all := lw_g (lw_at lw_m2 38 rfl) rfl
theorem q671 : (Jvm.Cond.soleField "WasteHouse$TicketChain$Chain" "days") ∈ lw_all := lw_g (lw_at lw_m2 39 rfl) rfl
theorem q672 : (Jvm.Cond.laysFinal "WasteHouse$TicketChain$Chain" "WasteHouse$TicketChain$Chain" "due" "[B") ∈ lw_all := lw_g (lw_at lw_m2 40 rfl) rfl
theorem q673 : (Jvm.Cond.soleField "WasteHouse$TicketChain$Chain" "due") ∈ lw_all := lw_g (lw_at lw_m2 41 rfl) rfl
theorem q674 : (Jvm.Cond.laysFinal "WasteHouse$TicketChain$Chain" "WasteHouse$TicketChain$Chain" "heap" "[B") ∈ lw_all := lw_g (lw_at lw_m2 42 rfl) rfl
theorem q675 : (Jvm.Cond.soleField "WasteHouse$TicketChain$Chain" "heap") ∈ lw_all := lw_g (lw_at lw_m2 43 rfl) rfl
theorem q676 : (Jvm.Cond.superclass "WasteHouse$TicketChain$Chain" "java/lang/Object") ∈ lw_all := lw_g (lw_at lw_m2 44 rfl) rfl
theorem q2018 : (Jvm.Cond.selects "WasteHouse$TicketChain$Chain" ({ cls := "java/lang/Object", name := "getClass", desc := "()Ljava/lang/Class;" } : Jvm.MethodName) ({ cls := "java/lang/Object", name := "getClass", desc := "()Ljava/lang/Class;" } : Jvm.MethodName)) ∈ lw_all := lw_g (lw_at lw_m7 186 rfl) rfl
theorem q3128 : (Jvm.Cond.selects "WasteHouse$TicketChain$Chain" ({ cls := "java/lang/Object", name := "equals", desc := "(Ljava/lang/Object;)Z" } : Jvm.MethodName) ({ cls := "java/lang/Object", name := "equals", desc := "(Ljava/lang/Object;)Z" } : Jvm.MethodName)) ∈ lw_all := lw_g (lw_at lw_m12 96 rfl) rfl
theorem q3646 : (Jvm.Cond.selects "WasteHouse$TicketChain$Chain" ({ cls := "java/lang/Object", name := "hashCode", desc := "()I" } : Jvm.MethodName) ({ cls := "java/lang/Object", name := "hashCode", desc := "()I" } : Jvm.MethodName)) ∈ lw_all := lw_g (lw_at lw_m14 134 rfl) rfl
theorem q5115 : (Jvm.Cond.instanceMethod ({ cls := "WasteHouse$TicketChain$Chain", name := "isFull", desc := "()Z" } : Jvm.MethodName)) ∈ lw_all := lw_g (lw_at lw_m20 163 rfl) rfl
theorem q5116 : (Jvm.Cond.selects "WasteHouse$TicketChain$Chain" ({ cls := "WasteHouse$TicketChain$Chain", name := "isFull", desc := "()Z" } : Jvm.MethodName) ({ cls := "WasteHouse$TicketChain$Chain", name := "isFull", desc := "()Z" } : Jvm.MethodName)) ∈ lw_all := lw_g (lw_at lw_m20 164 rfl) rfl
theorem q5117 : (Jvm.Cond.code ({ cls := "WasteHouse$TicketChain$Chain", name := "isFull", desc := "()Z" } : Jvm.MethodName) prog_49_method_3_code (1 : Nat) (Option.some Jvm.ClassFile.FieldType.boolean)) ∈ lw_all := lw_g (lw_at lw_m20 165 rfl) rfl
theorem q5118 : (Jvm.Cond.methodLink "WasteHouse$TicketChain$Chain" (51 : Nat) ({ cls := "java/util/ArrayList", name := "size", desc := "()I" } : Jvm.MethodName)) ∈ lw_all := lw_g (lw_at lw_m20 166 rfl) rfl
theorem q5129 : (Jvm.Cond.fieldLink "WasteHouse$TicketChain$Chain" (68 : Nat) "WasteHouse$TicketChain$Ticket" "number" "I") ∈ lw_all := lw_g (lw_at lw_m20 177 rfl) rfl
theorem q5151 : (Jvm.Cond.instanceMethod ({ cls := "WasteHouse$TicketChain$Chain", name := "ticket", desc := "(LWasteHouse$TicketChain$Ticket;)I" } : Jvm.MethodName)) ∈ lw_all := lw_g (lw_at lw_m20 199 rfl) rfl
theorem q5152 : (Jvm.Cond.selects "WasteHouse$TicketChain$Chain" ({ cls := "WasteHouse$TicketChain$Chain", name := "ticket", desc := "(LWasteHouse$TicketChain$Ticket;)I" } : Jvm.MethodName) ({ cls := "WasteHouse$TicketChain$Chain", name := "ticket", desc := "(LWasteHouse$TicketChain$Ticket;)I" } : Jvm.MethodName)) ∈ lw_all := lw_g (lw_at lw_m20 200 rfl) rfl
theorem q5153 : (Jvm.Cond.code ({ cls := "WasteHouse$TicketChain$Chain", name := "ticket", desc := "(LWasteHouse$TicketChain$Ticket;)I" } : Jvm.MethodName) prog_49_method_7_code (3 : Nat) (Option.some Jvm.ClassFile.FieldType.int)) ∈ lw_all := lw_g (lw_at lw_m20 201 rfl) rfl
theorem q5154 : (Jvm.Cond.methodLink "WasteHouse$TicketChain$Chain" (74 : Nat) ({ cls := "WasteHouse$TicketChain$Chain", name := "begin", desc := "(II)LWasteHouse$TicketChain$Writer;" } : Jvm.MethodName)) ∈ lw_all := lw_g (lw_at lw_m20 202 rfl) rfl
theorem q5155 : (Jvm.Cond.privateMethod ({ cls := "WasteHouse$TicketChain$Chain", name := "begin", desc := "(II)LWasteHouse$TicketChain$Writer;" } : Jvm.MethodName)) ∈ lw_tbl := lw_at lw_m20 203 rfl
theorem q5156 : (Jvm.Cond.instanceMethod ({ cls := "WasteHouse$TicketChain$Chain", name := "begin", desc := "(II)LWasteHouse$TicketChain$Writer;" } : Jvm.MethodName)) ∈ lw_all := lw_g (lw_at lw_m20 204 rfl) rfl
theorem q5157 : (Jvm.Cond.code ({ cls := "WasteHouse$TicketChain$Chain", name := "begin", desc := "(II)LWasteHouse$TicketChain$Writer;" } : Jvm.MethodName) prog_49_method_6_code (4 : Nat) (Option.some (Jvm.ClassFile.FieldType.object "WasteHouse$TicketChain$Writer"))) ∈ lw_all := lw_g (lw_at lw_m20 205 rfl) rfl
theorem q5158 : (Jvm.Cond.methodLink "WasteHouse$TicketChain$Chain" (60 : Nat) ({ cls := "java/util/ArrayList", name := "add", desc := "(Ljava/lang/Object;)Z" } : Jvm.MethodName)) ∈ lw_all := lw_g (lw_at lw_m20 206 rfl) rfl
theorem q5159 : (Jvm.Cond.methodLink "WasteHouse$TicketChain$Chain" (64 : Nat) ({ cls := "WasteHouse$TicketChain$Writer", name := "begin", desc := "([BII)V" } : Jvm.MethodName)) ∈ lw_all := lw_g (lw_at lw_m20 207 rfl) rfl
theorem q5167 : (Jvm.Cond.methodLink "WasteHouse$TicketChain$Chain" (77 : Nat) ({ cls := "WasteHouse$TicketChain$Ticket", name := "get", desc := "(I)J" } : Jvm.MethodName)) ∈ lw_all := lw_g (lw_at lw_m20 215 rfl) rfl
theorem q5171 : (Jvm.Cond.methodLink "WasteHouse$TicketChain$Chain" (80 : Nat) ({ cls := "WasteHouse$TicketChain$Writer", name := "four", desc := "(I)V" } : Jvm.MethodName)) ∈ lw_all := lw_g (lw_at lw_m20 219 rfl) rfl
theorem q5172 : (Jvm.Cond.methodLink "WasteHouse$TicketChain$Chain" (84 : Nat) ({ cls := "WasteHouse$TicketChain$Writer", name := "eight", desc := "(J)V" } : Jvm.MethodName)) ∈ lw_all := lw_g (lw_at lw_m20 220 rfl) rfl
theorem q5176 : (Jvm.Cond.methodLink "WasteHouse$TicketChain$Chain" (88 : Nat) ({ cls := "WasteHouse$TicketChain$Chain", name := "close", desc := "(LWasteHouse$TicketChain$Ticket;)I" } : Jvm.MethodName)) ∈ lw_all := lw_g (lw_at lw_m20 224 rfl) rfl
theorem q5177 : (Jvm.Cond.privateMethod ({ cls := "WasteHouse$TicketChain$Chain", name := "close", desc := "(LWasteHouse$TicketChain$Ticket;)I" } : Jvm.MethodName)) ∈ lw_tbl := lw_at lw_m20 225 rfl
theorem q5178 : (Jvm.Cond.instanceMethod ({ cls := "WasteHouse$TicketChain$Chain", name := "close", desc := "(LWasteHouse$TicketChain$Ticket;)I" } : Jvm.MethodName)) ∈ lw_all := lw_g (lw_at lw_m20 226 rfl) rfl
theorem q5179 : (Jvm.Cond.code ({ cls := "WasteHouse$TicketChain$Chain", name := "close", desc := "(LWasteHouse$TicketChain$Ticket;)I" } : Jvm.MethodName) prog_49_method_10_code (6 : Nat) (Option.some Jvm.ClassFile.FieldType.int)) ∈ lw_all := lw_g (lw_at lw_m20 227 rfl) rfl
theorem q5180 : (Jvm.Cond.methodLink "WasteHouse$TicketChain$Chain" (55 : Nat) ({ cls := "java/util/ArrayList", name := "get", desc := "(I)Ljava/lang/Object;" } : Jvm.MethodName)) ∈ lw_all := lw_g (lw_at lw_m20 228 rfl) rfl
theorem q5181 : (Jvm.Cond.classLink "WasteHouse$TicketChain$Chain" (59 : Nat) "[B") ∈ lw_all := lw_g (lw_at lw_m20 229 rfl) rfl
theorem q5182 : (Jvm.Cond.methodLink "WasteHouse$TicketChain$Chain" (92 : Nat) ({ cls := "WasteHouse$TicketChain$Chain", name := "digest", desc := "(I[BI)V" } : Jvm.MethodName)) ∈ lw_all := lw_g (lw_at lw_m20 230 rfl) rfl
theorem q5183 : (Jvm.Cond.privateMethod ({ cls := "WasteHouse$TicketChain$Chain", name := "digest", desc := "(I[BI)V" } : Jvm.MethodName)) ∈ lw_tbl := lw_at lw_m20 231 rfl
theorem q5184 : (Jvm.Cond.instanceMethod ({ cls := "WasteHouse$TicketChain$Chain", name := "digest", desc := "(I[BI)V" } : Jvm.MethodName)) ∈ lw_all := lw_g (lw_at lw_m20 232 rfl) rfl
theorem q5185 : (Jvm.Cond.code ({ cls := "WasteHouse$TicketChain$Chain", name := "digest", desc := "(I[BI)V" } : Jvm.MethodName) prog_49_method_11_code (5 : Nat) (Option.none : Option Jvm.ClassFile.FieldType)) ∈ lw_all := lw_g (lw_at lw_m20 233 rfl) rfl
theorem q5186 : (Jvm.Cond.methodLink "WasteHouse$TicketChain$Chain" (111 : Nat) ({ cls := "WasteHouse$TicketChain$Sum", name := "begin", desc := "()V" } : Jvm.MethodName)) ∈ lw_all := lw_g (lw_at lw_m20 234 rfl) rfl
theorem q5191 : (Jvm.Cond.methodLink "WasteHouse$TicketChain$Chain" (113 : Nat) ({ cls := "WasteHouse$TicketChain$Sum", name := "take", desc := "([BII)V" } : Jvm.MethodName)) ∈ lw_all := lw_g (lw_at lw_m20 239 rfl) rfl
theorem q5207 : (Jvm.Cond.methodLink "WasteHouse$TicketChain$Chain" (116 : Nat) ({ cls := "WasteHouse$TicketChain$Sum", name := "take", desc := "(I)V" } : Jvm.MethodName)) ∈ lw_all := lw_g (lw_at lw_m21 15 rfl) rfl
theorem q5208 : (Jvm.Cond.methodLink "WasteHouse$TicketChain$Chain" (118 : Nat) ({ cls := "WasteHouse$TicketChain$Sum", name := "end", desc := "([BI)V" } : Jvm.MethodName)) ∈ lw_all := lw_g (lw_at lw_m21 16 rfl) rfl
theorem q5214 : (Jvm.Cond.constantLong "WasteHouse$TicketChain$Chain" (96 : Nat) (86400 : Int64)) ∈ lw_all := lw_g (lw_at lw_m21 22 rfl) rfl
theorem q5215 : (Jvm.Cond.methodLink "WasteHouse$TicketChain$Chain" (98 : Nat) ({ cls := "java/lang/Integer", name := "valueOf", desc := "(I)Ljava/lang/Integer;" } : Jvm.MethodName)) ∈ lw_all := lw_g (lw_at lw_m21 23 rfl) rfl
theorem q5216 : (Jvm.Cond.methodLink "WasteHouse$TicketChain$Chain" (104 : Nat) ({ cls := "java/util/TreeMap", name := "get", desc := "(Ljava/lang/Object;)Ljava/lang/Object;" } : Jvm.MethodName)) ∈ lw_all := lw_g (lw_at lw_m21 24 rfl) rfl
theorem q5217 : (Jvm.Cond.methodLink "WasteHouse$TicketChain$Chain" (107 : Nat) ({ cls := "java/util/TreeMap", name := "put", desc := "(Ljava/lang/Object;Ljava/lang/Object;)Ljava/lang/Object;" } : Jvm.MethodName)) ∈ lw_all := lw_g (lw_at lw_m21 25 rfl) rfl
theorem q5657 : (Jvm.Cond.instanceMethod ({ cls := "WasteHouse$TicketChain$Chain", name := "count", desc := "()I" } : Jvm.MethodName)) ∈ lw_all := lw_g (lw_at lw_m22 225 rfl) rfl
theorem q5658 : (Jvm.Cond.selects "WasteHouse$TicketChain$Chain" ({ cls := "WasteHouse$TicketChain$Chain", name := "count", desc := "()I" } : Jvm.MethodName) ({ cls := "WasteHouse$TicketChain$Chain", name := "count", desc := "()I" } : Jvm.MethodName)) ∈ lw_all := lw_g (lw_at lw_m22 226 rfl) rfl
theorem q5659 : (Jvm.Cond.code ({ cls := "WasteHouse$TicketChain$Chain", name := "count", desc := "()I" } : Jvm.MethodName) prog_49_method_2_code (1 : Nat) (Option.some Jvm.ClassFile.FieldType.int)) ∈ lw_all := lw_g (lw_at lw_m22 227 rfl) rfl
theorem q5661 : (Jvm.Cond.instanceMethod ({ cls := "WasteHouse$TicketChain$Chain", name := "check", desc := "(I)I" } : Jvm.MethodName)) ∈ lw_all := lw_g (lw_at lw_m22 229 rfl) rfl
theorem q5662 : (Jvm.Cond.selects "WasteHouse$TicketChain$Chain" ({ cls := "WasteHouse$TicketChain$Chain", name := "check", desc := "(I)I" } : Jvm.MethodName) ({ cls := "WasteHouse$TicketChain$Chain", name := "check", desc := "(I)I" } : Jvm.MethodName)) ∈ lw_all := lw_g (lw_at lw_m22 230 rfl) rfl
theorem q5663 : (Jvm.Cond.code ({ cls := "WasteHouse$TicketChain$Chain", name := "check", desc := "(I)I" } : Jvm.MethodName) prog_49_method_13_code (3 : Nat) (Option.some Jvm.ClassFile.FieldType.int)) ∈ lw_all := lw_g (lw_at lw_m22 231 rfl) rfl
theorem q5664 : (Jvm.Cond.methodLink "WasteHouse$TicketChain$Chain" (122 : Nat) ({ cls := "WasteHouse$TicketChain$Chain", name := "isSound", desc := "(I)Z" } : Jvm.MethodName)) ∈ lw_all := lw_g (lw_at lw_m22 232 rfl) rfl
theorem q5665 : (Jvm.Cond.privateMethod ({ cls := "WasteHouse$TicketChain$Chain", name := "isSound", desc := "(I)Z" } : Jvm.MethodName)) ∈ lw_tbl := lw_at lw_m22 233 rfl
theorem q5666 : (Jvm.Cond.instanceMethod ({ cls := "WasteHouse$TicketChain$Chain", name := "isSound", desc := "(I)Z" } : Jvm.MethodName)) ∈ lw_all := lw_g (lw_at lw_m22 234 rfl) rfl
theorem q5667 : (Jvm.Cond.code ({ cls := "WasteHouse$TicketChain$Chain", name := "isSound", desc := "(I)Z" } : Jvm.MethodName) prog_49_method_12_code (5 : Nat) (Option.some Jvm.ClassFile.FieldType.boolean)) ∈ lw_all := lw_g (lw_at lw_m22 235 rfl) rfl
theorem q6483 : (Jvm.Cond.instanceMethod ({ cls := "WasteHouse$TicketChain$Chain", name := "correction", desc := "(LWasteHouse$TicketChain$Ticket;IJI)I" } : Jvm.MethodName)) ∈ lw_all := lw_g (lw_at lw_m26 91 rfl) rfl
theorem q6484 : (Jvm.Cond.selects "WasteHouse$TicketChain$Chain" ({ cls := "WasteHouse$TicketChain$Chain", name := "correction", desc := "(LWasteHouse$TicketChain$Ticket;IJI)I" } : Jvm.MethodName) ({ cls := "WasteHouse$TicketChain$Chain", name := "correction", desc := "(LWasteHouse$TicketChain$Ticket;IJI)I" } : Jvm.MethodName)) ∈ lw_all := lw_g (lw_at lw_m26 92 rfl) rfl
theorem q6485 : (Jvm.Cond.code ({ cls := "WasteHouse$TicketChain$Chain", name := "correction", desc := "(LWasteHouse$TicketChain$Ticket;IJI)I" } : Jvm.MethodName) prog_49_method_8_code (7 : Nat) (Option.some Jvm.ClassFile.FieldType.int)) ∈ lw_all := lw_g (lw_at lw_m26 93 rfl) rfl
theorem q6491 : (Jvm.Cond.instanceMethod ({ cls := "WasteHouse$TicketChain$Chain", name := "makeVoid", desc := "(LWasteHouse$TicketChain$Ticket;I)I" } : Jvm.MethodName)) ∈ lw_all := lw_g (lw_at lw_m26 99 rfl) rfl
theorem q6492 : (Jvm.Cond.selects "WasteHouse$TicketChain$Chain" ({ cls := "WasteHouse$TicketChain$Chain", name := "makeVoid", desc := "(LWasteHouse$TicketChain$Ticket;I)I" } : Jvm.MethodName) ({ cls := "WasteHouse$TicketChain$Chain", name := "makeVoid", desc := "(LWasteHouse$TicketChain$Ticket;I)I" } : Jvm.MethodName)) ∈ lw_all := lw_g (lw_at lw_m26 100 rfl) rfl
theorem q6493 : (Jvm.Cond.code ({ cls := "WasteHouse$TicketChain$Chain", name := "makeVoid", desc := "(LWasteHouse$TicketChain$Ticket;I)I" } : Jvm.MethodName) prog_49_method_9_code (3 : Nat) (Option.some Jvm.ClassFile.FieldType.int)) ∈ lw_all := lw_g (lw_at lw_m26 101 rfl) rfl
theorem q6574 : (Jvm.Cond.instanceMethod ({ cls := "WasteHouse$TicketChain$Chain", name := "isRow", desc := "(I)Z" } : Jvm.MethodName)) ∈ lw_all := lw_g (lw_at lw_m26 182 rfl) rfl
theorem q6575 : (Jvm.Cond.selects "WasteHouse$TicketChain$Chain" ({ cls := "WasteHouse$TicketChain$Chain", name := "isRow", desc := "(I)Z" } : Jvm.MethodName) ({ cls := "WasteHouse$TicketChain$Chain", name := "isRow", desc := "(I)Z" } : Jvm.MethodName)) ∈ lw_all := lw_g (lw_at lw_m26 183 rfl) rfl
theorem q6576 : (Jvm.Cond.code ({ cls := "WasteHouse$TicketChain$Chain", name := "isRow", desc := "(I)Z" } : Jvm.MethodName) prog_49_method_4_code (2 : Nat) (Option.some Jvm.ClassFile.FieldType.boolean)) ∈ lw_all := lw_g (lw_at lw_m26 184 rfl) rfl
theorem q6578 : (Jvm.Cond.instanceMethod ({ cls := "WasteHouse$TicketChain$Chain", name := "row", desc := "(I)[B" } : Jvm.MethodName)) ∈ lw_all := lw_g (lw_at lw_m26 186 rfl) rfl
theorem q6579 : (Jvm.Cond.selects "WasteHouse$TicketChain$Chain" ({ cls := "WasteHouse$TicketChain$Chain", name := "row", desc := "(I)[B" } : Jvm.MethodName) ({ cls := "WasteHouse$TicketChain$Chain", name := "row", desc := "(I)[B" } : Jvm.MethodName)) ∈ lw_all := lw_g (lw_at lw_m26 187 rfl) rfl
theorem q6580 : (Jvm.Cond.code ({ cls := "WasteHouse$TicketChain$Chain", name := "row", desc := "(I)[B" } : Jvm.MethodName) prog_49_method_5_code (2 : Nat) (Option.some (Jvm.ClassFile.FieldType.array Jvm.ClassFile.FieldType.byte))) ∈ lw_all := lw_g (lw_at lw_m26 188 rfl) rfl
theorem q6595 : (Jvm.Cond.instanceMethod ({ cls := "WasteHouse$TicketChain$Chain", name := "root", desc := "(I)Z" } : Jvm.MethodName)) ∈ lw_all := lw_g (lw_at lw_m26 203 rfl) rfl
theorem q6596 : (Jvm.Cond.selects "WasteHouse$TicketChain$Chain" ({ cls := "WasteHouse$TicketChain$Chain", name := "root", desc := "(I)Z" } : Jvm.MethodName) ({ cls := "WasteHouse$TicketChain$Chain", name := "root", desc := "(I)Z" } : Jvm.MethodName)) ∈ lw_all := lw_g (lw_at lw_m26 204 rfl) rfl
theorem q6597 : (Jvm.Cond.code ({ cls := "WasteHouse$TicketChain$Chain", name := "root", desc := "(I)Z" } : Jvm.MethodName) prog_49_method_14_code (6 : Nat) (Option.some Jvm.ClassFile.FieldType.boolean)) ∈ lw_all := lw_g (lw_at lw_m26 205 rfl) rfl
theorem q6598 : (Jvm.Cond.methodLink "WasteHouse$TicketChain$Chain" (126 : Nat) ({ cls := "java/util/ArrayList", name := "iterator", desc := "()Ljava/util/Iterator;" } : Jvm.MethodName)) ∈ lw_all := lw_g (lw_at lw_m26 206 rfl) rfl
theorem q6599 : (Jvm.Cond.interfaceEntry "WasteHouse$TicketChain$Chain" (130 : Nat)) ∈ lw_tbl := lw_at lw_m26 207 rfl
theorem q6600 : (Jvm.Cond.methodLink "WasteHouse$TicketChain$Chain" (130 : Nat) ({ cls := "java/util/Iterator", name := "hasNext", desc := "()Z" } : Jvm.MethodName)) ∈ lw_all := lw_g (lw_at lw_m26 208 rfl) rfl
theorem q6601 : (Jvm.Cond.interfaceEntry "WasteHouse$TicketChain$Chain" (136 : Nat)) ∈ lw_tbl := lw_at lw_m26 209 rfl
theorem q6602 : (Jvm.Cond.methodLink "WasteHouse$TicketChain$Chain" (136 : Nat) ({ cls := "java/util/Iterator", name := "next", desc := "()Ljava/lang/Object;" } : Jvm.MethodName)) ∈ lw_all := lw_g (lw_at lw_m26 210 rfl) rfl
theorem q6603 : (Jvm.Cond.methodLink "WasteHouse$TicketChain$Chain" (140 : Nat) ({ cls := "java/lang/System", name := "arraycopy", desc := "(Ljava/lang/Object;ILjava/lang/Object;II)V" } : Jvm.MethodName)) ∈ lw_all := lw_g (lw_at lw_m26 211 rfl) rfl
theorem q9632 : (Jvm.Cond.castable "WasteHouse$TicketChain$Chain" "java/lang/Object") ∈ lw_tbl := lw_at lw_m39 120 rfl
theorem in_X3 : ∀ w ∈ wsX30, w ∈ lw_all := lw_in wsX30 [664, 666, 668, 670, 672, 674] (by decide +kernel) (by decide +kernel)
