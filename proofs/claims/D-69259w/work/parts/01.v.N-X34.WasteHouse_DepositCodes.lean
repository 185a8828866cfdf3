/-! WasteHouse$DepositCodes -/
set_option maxRecDepth 100000
def RX34 : String := "WasteHouse$DepositCodes"
def TX34 : u_T := fun k => match k with
  | 0 => ("WasteHouse$DepositCodes", "bars", "LWasteHouse$DepositCodes$Bars;", true)
  | 1 => ("WasteHouse$DepositCodes", "machines", "Ljava/util/ArrayList;", true)
  | 2 => ("WasteHouse$DepositCodes", "spans", "[LWasteHouse$DepositCodes$Span;", true)
  | 3 => ("WasteHouse$DepositCodes", "doubles", "Ljava/util/ArrayList;", true)
  | 4 => ("WasteHouse$DepositCodes", "refusals", "Ljava/util/TreeMap;", true)
  | 5 => ("WasteHouse$DepositCodes", "frauds", "Ljava/util/ArrayDeque;", true)
  | 6 => ("WasteHouse$DepositCodes", "months", "Ljava/util/TreeMap;", true)
  | 7 => ("WasteHouse$DepositCodes", "shown", "[J", true)
  | 8 => ("WasteHouse$DepositCodes", "coupons", "Ljava/util/ArrayList;", true)
  | 9 => ("WasteHouse$DepositCodes", "redeemed", "Ljava/util/HashSet;", true)
  | 10 => ("WasteHouse$DepositCodes", "shops", "[J", true)
  | 11 => ("WasteHouse$DepositCodes", "paid", "I", false)
  | _ => ("WasteHouse$DepositCodes", "reason", "I", false)
def tyX34 : Nat → FieldType := fun k => match k with
  | 0 => .object "WasteHouse$DepositCodes$Bars"
  | 1 => .object "java/util/ArrayList"
  | 2 => .array (.object "WasteHouse$DepositCodes$Span")
  | 3 => .object "java/util/ArrayList"
  | 4 => .object "java/util/TreeMap"
  | 5 => .object "java/util/ArrayDeque"
  | 6 => .object "java/util/TreeMap"
  | 7 => .array .long
  | 8 => .object "java/util/ArrayList"
  | 9 => .object "java/util/HashSet"
  | 10 => .array .long
  | 11 => .int
  | _ => .int
abbrev wsX340 : List Cond := u_ws RX34 TX34 13
set_option maxRecDepth 100000 in
theorem nmX34 : ∀ a, a < 13 → ∀ b, b < 13 → a ≠ b → (TX34 a).2.1 ≠ (TX34 b).2.1 := by decide +kernel
set_option maxRecDepth 100000 in
theorem tyX34_ok : ∀ k, k < 13 → parseFieldDescriptor (TX34 k).2.2.1 = some (tyX34 k) := by decide +kernel
abbrev cX34_init : ByteArray := prog_9_method_1_code
def yX34_init : MethodName := ⟨RX34, "<init>", "()V"⟩
def dkwX34_init_5 : List UInt8 := [181, 0, 63, 177]
abbrev dktX34_init_5 : List UInt8 := dkwX34_init_5 ++ []
def dkwX34_init_4 : List UInt8 := [183, 0, 18, 181, 0, 53, 42, 187, 0, 56, 89, 183, 0, 58, 181, 0, 59, 42, 16, 100, 188, 11]
abbrev dktX34_init_4 : List UInt8 := dkwX34_init_4 ++ dktX34_init_5
def dkwX34_init_3 : List UInt8 := [187, 0, 32, 89, 183, 0, 34, 181, 0, 46, 42, 6, 188, 11, 181, 0, 49, 42, 187, 0, 16, 89]
abbrev dktX34_init_3 : List UInt8 := dkwX34_init_3 ++ dktX34_init_4
def dkwX34_init_2 : List UInt8 := [187, 0, 32, 89, 183, 0, 34, 181, 0, 35, 42, 187, 0, 39, 89, 183, 0, 41, 181, 0, 42, 42]
abbrev dktX34_init_2 : List UInt8 := dkwX34_init_2 ++ dktX34_init_3
def dkwX34_init_1 : List UInt8 := [181, 0, 19, 42, 16, 8, 189, 0, 23, 181, 0, 25, 42, 187, 0, 16, 89, 183, 0, 18, 181, 0, 29, 42]
abbrev dktX34_init_1 : List UInt8 := dkwX34_init_1 ++ dktX34_init_2
def dkwX34_init_0 : List UInt8 := [42, 183, 0, 1, 42, 187, 0, 7, 89, 183, 0, 9, 181, 0, 10, 42, 187, 0, 16, 89, 183, 0, 18]
abbrev dktX34_init_0 : List UInt8 := dkwX34_init_0 ++ dktX34_init_1
theorem dksX34_init_0 : cX34_init.data.toList.drop 0 = dktX34_init_0 := by decide +kernel
theorem dksX34_init_1 : cX34_init.data.toList.drop 23 = dktX34_init_1 := dk_seg dksX34_init_0 23 rfl rfl
theorem dksX34_init_2 : cX34_init.data.toList.drop 47 = dktX34_init_2 := dk_seg dksX34_init_1 24 rfl rfl
theorem dksX34_init_3 : cX34_init.data.toList.drop 69 = dktX34_init_3 := dk_seg dksX34_init_2 22 rfl rfl
theorem dksX34_init_4 : cX34_init.data.toList.drop 91 = dktX34_init_4 := dk_seg dksX34_init_3 22 rfl rfl
theorem dksX34_init_5 : cX34_init.data.toList.drop 113 = dktX34_init_5 := dk_seg dksX34_init_4 22 rfl rfl
theorem dX34_init_0 : decode cX34_init 0 = .ok (.aload_n 0, 1) := dk_42 (dk_at dksX34_init_0 0 rfl rfl)
theorem dX34_init_1 : decode cX34_init 1 = .ok (.invokespecial 1, 3) := dk_183 0 1 (dk_at dksX34_init_0 1 rfl rfl)
theorem dX34_init_4 : decode cX34_init 4 = .ok (.aload_n 0, 1) := dk_42 (dk_at dksX34_init_0 4 rfl rfl)
theorem dX34_init_5 : decode cX34_init 5 = .ok (.new 7, 3) := dk_187 0 7 (dk_at dksX34_init_0 5 rfl rfl)
theorem dX34_init_8 : decode cX34_init 8 = .ok (.dup, 1) := dk_89 (dk_at dksX34_init_0 8 rfl rfl)
theorem dX34_init_9 : decode cX34_init 9 = .ok (.invokespecial 9, 3) := dk_183 0 9 (dk_at dksX34_init_0 9 rfl rfl)
theorem dX34_init_12 : decode cX34_init 12 = .ok (.putfield 10, 3) := dk_181 0 10 (dk_at dksX34_init_0 12 rfl rfl)
theorem dX34_init_15 : decode cX34_init 15 = .ok (.aload_n 0, 1) := dk_42 (dk_at dksX34_init_0 15 rfl rfl)
theorem dX34_init_16 : decode cX34_init 16 = .ok (.new 16, 3) := dk_187 0 16 (dk_at dksX34_init_0 16 rfl rfl)
theorem dX34_init_19 : decode cX34_init 19 = .ok (.dup, 1) := dk_89 (dk_at dksX34_init_0 19 rfl rfl)
theorem dX34_init_20 : decode cX34_init 20 = .ok (.invokespecial 18, 3) := dk_183 0 18 (dk_at dksX34_init_0 20 rfl rfl)
theorem dX34_init_23 : decode cX34_init 23 = .ok (.putfield 19, 3) := dk_181 0 19 (dk_at dksX34_init_1 0 rfl rfl)
theorem dX34_init_26 : decode cX34_init 26 = .ok (.aload_n 0, 1) := dk_42 (dk_at dksX34_init_1 3 rfl rfl)
theorem dX34_init_27 : decode cX34_init 27 = .ok (.bipush 8, 2) := dk_16 8 (dk_at dksX34_init_1 4 rfl rfl)
theorem dX34_init_29 : decode cX34_init 29 = .ok (.anewarray 23, 3) := dk_189 0 23 (dk_at dksX34_init_1 6 rfl rfl)
theorem dX34_init_32 : decode cX34_init 32 = .ok (.putfield 25, 3) := dk_181 0 25 (dk_at dksX34_init_1 9 rfl rfl)
theorem dX34_init_35 : decode cX34_init 35 = .ok (.aload_n 0, 1) := dk_42 (dk_at dksX34_init_1 12 rfl rfl)
theorem dX34_init_36 : decode cX34_init 36 = .ok (.new 16, 3) := dk_187 0 16 (dk_at dksX34_init_1 13 rfl rfl)
theorem dX34_init_39 : decode cX34_init 39 = .ok (.dup, 1) := dk_89 (dk_at dksX34_init_1 16 rfl rfl)
theorem dX34_init_40 : decode cX34_init 40 = .ok (.invokespecial 18, 3) := dk_183 0 18 (dk_at dksX34_init_1 17 rfl rfl)
theorem dX34_init_43 : decode cX34_init 43 = .ok (.putfield 29, 3) := dk_181 0 29 (dk_at dksX34_init_1 20 rfl rfl)
theorem dX34_init_46 : decode cX34_init 46 = .ok (.aload_n 0, 1) := dk_42 (dk_at dksX34_init_1 23 rfl rfl)
theorem dX34_init_47 : decode cX34_init 47 = .ok (.new 32, 3) := dk_187 0 32 (dk_at dksX34_init_2 0 rfl rfl)
theorem dX34_init_50 : decode cX34_init 50 = .ok (.dup, 1) := dk_89 (dk_at dksX34_init_2 3 rfl rfl)
theorem dX34_init_51 : decode cX34_init 51 = .ok (.invokespecial 34, 3) := dk_183 0 34 (dk_at dksX34_init_2 4 rfl rfl)
theorem dX34_init_54 : decode cX34_init 54 = .ok (.putfield 35, 3) := dk_181 0 35 (dk_at dksX34_init_2 7 rfl rfl)
theorem dX34_init_57 : decode cX34_init 57 = .ok (.aload_n 0, 1) := dk_42 (dk_at dksX34_init_2 10 rfl rfl)
theorem dX34_init_58 : decode cX34_init 58 = .ok (.new 39, 3) := dk_187 0 39 (dk_at dksX34_init_2 11 rfl rfl)
theorem dX34_init_61 : decode cX34_init 61 = .ok (.dup, 1) := dk_89 (dk_at dksX34_init_2 14 rfl rfl)
theorem dX34_init_62 : decode cX34_init 62 = .ok (.invokespecial 41, 3) := dk_183 0 41 (dk_at dksX34_init_2 15 rfl rfl)
theorem dX34_init_65 : decode cX34_init 65 = .ok (.putfield 42, 3) := dk_181 0 42 (dk_at dksX34_init_2 18 rfl rfl)
theorem dX34_init_68 : decode cX34_init 68 = .ok (.aload_n 0, 1) := dk_42 (dk_at dksX34_init_2 21 rfl rfl)
theorem dX34_init_69 : decode cX34_init 69 = .ok (.new 32, 3) := dk_187 0 32 (dk_at dksX34_init_3 0 rfl rfl)
theorem dX34_init_72 : decode cX34_init 72 = .ok (.dup, 1) := dk_89 (dk_at dksX34_init_3 3 rfl rfl)
theorem dX34_init_73 : decode cX34_init 73 = .ok (.invokespecial 34, 3) := dk_183 0 34 (dk_at dksX34_init_3 4 rfl rfl)
theorem dX34_init_76 : decode cX34_init 76 = .ok (.putfield 46, 3) := dk_181 0 46 (dk_at dksX34_init_3 7 rfl rfl)
theorem dX34_init_79 : decode cX34_init 79 = .ok (.aload_n 0, 1) := dk_42 (dk_at dksX34_init_3 10 rfl rfl)
theorem dX34_init_80 : decode cX34_init 80 = .ok (.iconst 3, 1) := dk_6 (dk_at dksX34_init_3 11 rfl rfl)
theorem dX34_init_81 : decode cX34_init 81 = .ok (.newarray .long, 2) := dk_188_11 (dk_at dksX34_init_3 12 rfl rfl)
theorem dX34_init_83 : decode cX34_init 83 = .ok (.putfield 49, 3) := dk_181 0 49 (dk_at dksX34_init_3 14 rfl rfl)
theorem dX34_init_86 : decode cX34_init 86 = .ok (.aload_n 0, 1) := dk_42 (dk_at dksX34_init_3 17 rfl rfl)
theorem dX34_init_87 : decode cX34_init 87 = .ok (.new 16, 3) := dk_187 0 16 (dk_at dksX34_init_3 18 rfl rfl)
theorem dX34_init_90 : decode cX34_init 90 = .ok (.dup, 1) := dk_89 (dk_at dksX34_init_3 21 rfl rfl)
theorem dX34_init_91 : decode cX34_init 91 = .ok (.invokespecial 18, 3) := dk_183 0 18 (dk_at dksX34_init_4 0 rfl rfl)
theorem dX34_init_94 : decode cX34_init 94 = .ok (.putfield 53, 3) := dk_181 0 53 (dk_at dksX34_init_4 3 rfl rfl)
theorem dX34_init_97 : decode cX34_init 97 = .ok (.aload_n 0, 1) := dk_42 (dk_at dksX34_init_4 6 rfl rfl)
theorem dX34_init_98 : decode cX34_init 98 = .ok (.new 56, 3) := dk_187 0 56 (dk_at dksX34_init_4 7 rfl rfl)
theorem dX34_init_101 : decode cX34_init 101 = .ok (.dup, 1) := dk_89 (dk_at dksX34_init_4 10 rfl rfl)
theorem dX34_init_102 : decode cX34_init 102 = .ok (.invokespecial 58, 3) := dk_183 0 58 (dk_at dksX34_init_4 11 rfl rfl)
theorem dX34_init_105 : decode cX34_init 105 = .ok (.putfield 59, 3) := dk_181 0 59 (dk_at dksX34_init_4 14 rfl rfl)
theorem dX34_init_108 : decode cX34_init 108 = .ok (.aload_n 0, 1) := dk_42 (dk_at dksX34_init_4 17 rfl rfl)
theorem dX34_init_109 : decode cX34_init 109 = .ok (.bipush 100, 2) := dk_16 100 (dk_at dksX34_init_4 18 rfl rfl)
theorem dX34_init_111 : decode cX34_init 111 = .ok (.newarray .long, 2) := dk_188_11 (dk_at dksX34_init_4 20 rfl rfl)
theorem dX34_init_113 : decode cX34_init 113 = .ok (.putfield 63, 3) := dk_181 0 63 (dk_at dksX34_init_5 0 rfl rfl)
theorem dX34_init_116 : decode cX34_init 116 = .ok (.return_, 1) := dk_177 (dk_at dksX34_init_5 3 rfl rfl)
abbrev cX34_width : ByteArray := prog_9_method_3_code
def yX34_width : MethodName := ⟨RX34, "width", "(II)Z"⟩
def dkwX34_width_1 : List UInt8 := [180, 0, 10, 27, 28, 182, 0, 70, 4, 172]
abbrev dktX34_width_1 : List UInt8 := dkwX34_width_1 ++ []
def dkwX34_width_0 : List UInt8 := [27, 155, 0, 20, 27, 16, 64, 162, 0, 14, 28, 155, 0, 10, 28, 17, 3, 232, 164, 0, 5, 3, 172, 42]
abbrev dktX34_width_0 : List UInt8 := dkwX34_width_0 ++ dktX34_width_1
theorem dksX34_width_0 : cX34_width.data.toList.drop 0 = dktX34_width_0 := by decide +kernel
theorem dksX34_width_1 : cX34_width.data.toList.drop 24 = dktX34_width_1 := dk_seg dksX34_width_0 24 rfl rfl
theorem dX34_width_0 : decode cX34_width 0 = .ok (.iload_n 1, 1) := dk_27 (dk_at dksX34_width_0 0 rfl rfl)
theorem dX34_width_1 : decode cX34_width 1 = .ok (.ifCond .lt 20, 3) := dk_155 0 20 (dk_at dksX34_width_0 1 rfl rfl)
theorem dX34_width_4 : decode cX34_width 4 = .ok (.iload_n 1, 1) := dk_27 (dk_at dksX34_width_0 4 rfl rfl)
theorem dX34_width_5 : decode cX34_width 5 = .ok (.bipush 64, 2) := dk_16 64 (dk_at dksX34_width_0 5 rfl rfl)
theorem dX34_width_7 : decode cX34_width 7 = .ok (.if_icmp .ge 14, 3) := dk_162 0 14 (dk_at dksX34_width_0 7 rfl rfl)
theorem dX34_width_10 : decode cX34_width 10 = .ok (.iload_n 2, 1) := dk_28 (dk_at dksX34_width_0 10 rfl rfl)
theorem dX34_width_11 : decode cX34_width 11 = .ok (.ifCond .lt 10, 3) := dk_155 0 10 (dk_at dksX34_width_0 11 rfl rfl)
theorem dX34_width_14 : decode cX34_width 14 = .ok (.iload_n 2, 1) := dk_28 (dk_at dksX34_width_0 14 rfl rfl)
theorem dX34_width_15 : decode cX34_width 15 = .ok (.sipush 1000, 3) := dk_17 3 232 (dk_at dksX34_width_0 15 rfl rfl)
theorem dX34_width_18 : decode cX34_width 18 = .ok (.if_icmp .le 5, 3) := dk_164 0 5 (dk_at dksX34_width_0 18 rfl rfl)
theorem dX34_width_21 : decode cX34_width 21 = .ok (.iconst 0, 1) := dk_3 (dk_at dksX34_width_0 21 rfl rfl)
theorem dX34_width_22 : decode cX34_width 22 = .ok (.ireturn, 1) := dk_172 (dk_at dksX34_width_0 22 rfl rfl)
theorem dX34_width_23 : decode cX34_width 23 = .ok (.aload_n 0, 1) := dk_42 (dk_at dksX34_width_0 23 rfl rfl)
theorem dX34_width_24 : decode cX34_width 24 = .ok (.getfield 10, 3) := dk_180 0 10 (dk_at dksX34_width_1 0 rfl rfl)
theorem dX34_width_27 : decode cX34_width 27 = .ok (.iload_n 1, 1) := dk_27 (dk_at dksX34_width_1 3 rfl rfl)
theorem dX34_width_28 : decode cX34_width 28 = .ok (.iload_n 2, 1) := dk_28 (dk_at dksX34_width_1 4 rfl rfl)
theorem dX34_width_29 : decode cX34_width 29 = .ok (.invokevirtual 70, 3) := dk_182 0 70 (dk_at dksX34_width_1 5 rfl rfl)
theorem dX34_width_32 : decode cX34_width 32 = .ok (.iconst 1, 1) := dk_4 (dk_at dksX34_width_1 8 rfl rfl)
theorem dX34_width_33 : decode cX34_width 33 = .ok (.ireturn, 1) := dk_172 (dk_at dksX34_width_1 9 rfl rfl)
abbrev cX34_read : ByteArray := prog_9_method_4_code
def yX34_read : MethodName := ⟨RX34, "read", "()I"⟩
def dkwX34_read_0 : List UInt8 := [42, 180, 0, 10, 3, 182, 0, 74, 172]
abbrev dktX34_read_0 : List UInt8 := dkwX34_read_0 ++ []
theorem dksX34_read_0 : cX34_read.data.toList.drop 0 = dktX34_read_0 := by decide +kernel
theorem dX34_read_0 : decode cX34_read 0 = .ok (.aload_n 0, 1) := dk_42 (dk_at dksX34_read_0 0 rfl rfl)
theorem dX34_read_1 : decode cX34_read 1 = .ok (.getfield 10, 3) := dk_180 0 10 (dk_at dksX34_read_0 1 rfl rfl)
theorem dX34_read_4 : decode cX34_read 4 = .ok (.iconst 0, 1) := dk_3 (dk_at dksX34_read_0 4 rfl rfl)
theorem dX34_read_5 : decode cX34_read 5 = .ok (.invokevirtual 74, 3) := dk_182 0 74 (dk_at dksX34_read_0 5 rfl rfl)
theorem dX34_read_8 : decode cX34_read 8 = .ok (.ireturn, 1) := dk_172 (dk_at dksX34_read_0 8 rfl rfl)
abbrev cX34_back : ByteArray := prog_9_method_5_code
def yX34_back : MethodName := ⟨RX34, "back", "()I"⟩
def dkwX34_back_0 : List UInt8 := [42, 180, 0, 10, 4, 182, 0, 74, 172]
abbrev dktX34_back_0 : List UInt8 := dkwX34_back_0 ++ []
theorem dksX34_back_0 : cX34_back.data.toList.drop 0 = dktX34_back_0 := by decide +kernel
theorem dX34_back_0 : decode cX34_back 0 = .ok (.aload_n 0, 1) := dk_42 (dk_at dksX34_back_0 0 rfl rfl)
theorem dX34_back_1 : decode cX34_back 1 = .ok (.getfield 10, 3) := dk_180 0 10 (dk_at dksX34_back_0 1 rfl rfl)
theorem dX34_back_4 : decode cX34_back 4 = .ok (.iconst 1, 1) := dk_4 (dk_at dksX34_back_0 4 rfl rfl)
theorem dX34_back_5 : decode cX34_back 5 = .ok (.invokevirtual 74, 3) := dk_182 0 74 (dk_at dksX34_back_0 5 rfl rfl)
theorem dX34_back_8 : decode cX34_back 8 = .ok (.ireturn, 1) := dk_172 (dk_at dksX34_back_0 8 rfl rfl)
abbrev cX34_digit : ByteArray := prog_9_method_6_code
def yX34_digit : MethodName := ⟨RX34, "digit", "(I)I"⟩
def dkwX34_digit_0 : List UInt8 := [42, 180, 0, 10, 27, 182, 0, 78, 172]
abbrev dktX34_digit_0 : List UInt8 := dkwX34_digit_0 ++ []
theorem dksX34_digit_0 : cX34_digit.data.toList.drop 0 = dktX34_digit_0 := by decide +kernel
theorem dX34_digit_0 : decode cX34_digit 0 = .ok (.aload_n 0, 1) := dk_42 (dk_at dksX34_digit_0 0 rfl rfl)
theorem dX34_digit_1 : decode cX34_digit 1 = .ok (.getfield 10, 3) := dk_180 0 10 (dk_at dksX34_digit_0 1 rfl rfl)
theorem dX34_digit_4 : decode cX34_digit 4 = .ok (.iload_n 1, 1) := dk_27 (dk_at dksX34_digit_0 4 rfl rfl)
theorem dX34_digit_5 : decode cX34_digit 5 = .ok (.invokevirtual 78, 3) := dk_182 0 78 (dk_at dksX34_digit_0 5 rfl rfl)
theorem dX34_digit_8 : decode cX34_digit 8 = .ok (.ireturn, 1) := dk_172 (dk_at dksX34_digit_0 8 rfl rfl)
abbrev cX34_check : ByteArray := prog_9_method_7_code
def yX34_check : MethodName := ⟨RX34, "check", "(IJ)I"⟩
def dkwX34_check_1 : List UInt8 := [184, 0, 88, 172]
abbrev dktX34_check_1 : List UInt8 := dkwX34_check_1 ++ []
def dkwX34_check_0 : List UInt8 := [27, 155, 0, 15, 27, 4, 163, 0, 10, 32, 184, 0, 82, 154, 0, 7, 2, 167, 0, 8, 27, 32]
abbrev dktX34_check_0 : List UInt8 := dkwX34_check_0 ++ dktX34_check_1
theorem dksX34_check_0 : cX34_check.data.toList.drop 0 = dktX34_check_0 := by decide +kernel
theorem dksX34_check_1 : cX34_check.data.toList.drop 22 = dktX34_check_1 := dk_seg dksX34_check_0 22 rfl rfl
theorem dX34_check_0 : decode cX34_check 0 = .ok (.iload_n 1, 1) := dk_27 (dk_at dksX34_check_0 0 rfl rfl)
theorem dX34_check_1 : decode cX34_check 1 = .ok (.ifCond .lt 15, 3) := dk_155 0 15 (dk_at dksX34_check_0 1 rfl rfl)
theorem dX34_check_4 : decode cX34_check 4 = .ok (.iload_n 1, 1) := dk_27 (dk_at dksX34_check_0 4 rfl rfl)
theorem dX34_check_5 : decode cX34_check 5 = .ok (.iconst 1, 1) := dk_4 (dk_at dksX34_check_0 5 rfl rfl)
theorem dX34_check_6 : decode cX34_check 6 = .ok (.if_icmp .gt 10, 3) := dk_163 0 10 (dk_at dksX34_check_0 6 rfl rfl)
theorem dX34_check_9 : decode cX34_check 9 = .ok (.lload_n 2, 1) := dk_32 (dk_at dksX34_check_0 9 rfl rfl)
theorem dX34_check_10 : decode cX34_check 10 = .ok (.invokestatic 82, 3) := dk_184 0 82 (dk_at dksX34_check_0 10 rfl rfl)
theorem dX34_check_13 : decode cX34_check 13 = .ok (.ifCond .ne 7, 3) := dk_154 0 7 (dk_at dksX34_check_0 13 rfl rfl)
theorem dX34_check_16 : decode cX34_check 16 = .ok (.iconst (-1), 1) := dk_2 (dk_at dksX34_check_0 16 rfl rfl)
theorem dX34_check_17 : decode cX34_check 17 = .ok (.goto 8, 3) := dk_167 0 8 (dk_at dksX34_check_0 17 rfl rfl)
theorem dX34_check_20 : decode cX34_check 20 = .ok (.iload_n 1, 1) := dk_27 (dk_at dksX34_check_0 20 rfl rfl)
theorem dX34_check_21 : decode cX34_check 21 = .ok (.lload_n 2, 1) := dk_32 (dk_at dksX34_check_0 21 rfl rfl)
theorem dX34_check_22 : decode cX34_check 22 = .ok (.invokestatic 88, 3) := dk_184 0 88 (dk_at dksX34_check_1 0 rfl rfl)
theorem dX34_check_25 : decode cX34_check 25 = .ok (.ireturn, 1) := dk_172 (dk_at dksX34_check_1 3 rfl rfl)
abbrev cX34_good : ByteArray := prog_9_method_8_code
def yX34_good : MethodName := ⟨RX34, "good", "(IJ)Z"⟩
def dkwX34_good_1 : List UInt8 := [4, 167, 0, 4, 3, 172]
abbrev dktX34_good_1 : List UInt8 := dkwX34_good_1 ++ []
def dkwX34_good_0 : List UInt8 := [27, 155, 0, 27, 27, 4, 163, 0, 22, 32, 184, 0, 82, 153, 0, 15, 27, 32, 184, 0, 92, 153, 0, 7]
abbrev dktX34_good_0 : List UInt8 := dkwX34_good_0 ++ dktX34_good_1
theorem dksX34_good_0 : cX34_good.data.toList.drop 0 = dktX34_good_0 := by decide +kernel
theorem dksX34_good_1 : cX34_good.data.toList.drop 24 = dktX34_good_1 := dk_seg dksX34_good_0 24 rfl rfl
theorem dX34_good_0 : decode cX34_good 0 = .ok (.iload_n 1, 1) := dk_27 (dk_at dksX34_good_0 0 rfl rfl)
theorem dX34_good_1 : decode cX34_good 1 = .ok (.ifCond .lt 27, 3) := dk_155 0 27 (dk_at dksX34_good_0 1 rfl rfl)
theorem dX34_good_4 : decode cX34_good 4 = .ok (.iload_n 1, 1) := dk_27 (dk_at dksX34_good_0 4 rfl rfl)
theorem dX34_good_5 : decode cX34_good 5 = .ok (.iconst 1, 1) := dk_4 (dk_at dksX34_good_0 5 rfl rfl)
theorem dX34_good_6 : decode cX34_good 6 = .ok (.if_icmp .gt 22, 3) := dk_163 0 22 (dk_at dksX34_good_0 6 rfl rfl)
theorem dX34_good_9 : decode cX34_good 9 = .ok (.lload_n 2, 1) := dk_32 (dk_at dksX34_good_0 9 rfl rfl)
theorem dX34_good_10 : decode cX34_good 10 = .ok (.invokestatic 82, 3) := dk_184 0 82 (dk_at dksX34_good_0 10 rfl rfl)
theorem dX34_good_13 : decode cX34_good 13 = .ok (.ifCond .eq 15, 3) := dk_153 0 15 (dk_at dksX34_good_0 13 rfl rfl)
theorem dX34_good_16 : decode cX34_good 16 = .ok (.iload_n 1, 1) := dk_27 (dk_at dksX34_good_0 16 rfl rfl)
theorem dX34_good_17 : decode cX34_good 17 = .ok (.lload_n 2, 1) := dk_32 (dk_at dksX34_good_0 17 rfl rfl)
theorem dX34_good_18 : decode cX34_good 18 = .ok (.invokestatic 92, 3) := dk_184 0 92 (dk_at dksX34_good_0 18 rfl rfl)
theorem dX34_good_21 : decode cX34_good 21 = .ok (.ifCond .eq 7, 3) := dk_153 0 7 (dk_at dksX34_good_0 21 rfl rfl)
theorem dX34_good_24 : decode cX34_good 24 = .ok (.iconst 1, 1) := dk_4 (dk_at dksX34_good_1 0 rfl rfl)
theorem dX34_good_25 : decode cX34_good 25 = .ok (.goto 4, 3) := dk_167 0 4 (dk_at dksX34_good_1 1 rfl rfl)
theorem dX34_good_28 : decode cX34_good 28 = .ok (.iconst 0, 1) := dk_3 (dk_at dksX34_good_1 4 rfl rfl)
theorem dX34_good_29 : decode cX34_good 29 = .ok (.ireturn, 1) := dk_172 (dk_at dksX34_good_1 5 rfl rfl)
abbrev cX34_machine : ByteArray := prog_9_method_9_code
def yX34_machine : MethodName := ⟨RX34, "machine", "()I"⟩
def dkwX34_machine_1 : List UInt8 := [180, 0, 19, 182, 0, 66, 183, 0, 98, 182, 0, 101, 87, 42, 180, 0, 19, 182, 0, 66, 4, 100, 172]
abbrev dktX34_machine_1 : List UInt8 := dkwX34_machine_1 ++ []
def dkwX34_machine_0 : List UInt8 := [42, 180, 0, 19, 182, 0, 66, 16, 6, 160, 0, 5, 2, 172, 42, 180, 0, 19, 187, 0, 96, 89, 42]
abbrev dktX34_machine_0 : List UInt8 := dkwX34_machine_0 ++ dktX34_machine_1
theorem dksX34_machine_0 : cX34_machine.data.toList.drop 0 = dktX34_machine_0 := by decide +kernel
theorem dksX34_machine_1 : cX34_machine.data.toList.drop 23 = dktX34_machine_1 := dk_seg dksX34_machine_0 23 rfl rfl
theorem dX34_machine_0 : decode cX34_machine 0 = .ok (.aload_n 0, 1) := dk_42 (dk_at dksX34_machine_0 0 rfl rfl)
theorem dX34_machine_1 : decode cX34_machine 1 = .ok (.getfield 19, 3) := dk_180 0 19 (dk_at dksX34_machine_0 1 rfl rfl)
theorem dX34_machine_4 : decode cX34_machine 4 = .ok (.invokevirtual 66, 3) := dk_182 0 66 (dk_at dksX34_machine_0 4 rfl rfl)
theorem dX34_machine_7 : decode cX34_machine 7 = .ok (.bipush 6, 2) := dk_16 6 (dk_at dksX34_machine_0 7 rfl rfl)
theorem dX34_machine_9 : decode cX34_machine 9 = .ok (.if_icmp .ne 5, 3) := dk_160 0 5 (dk_at dksX34_machine_0 9 rfl rfl)
theorem dX34_machine_12 : decode cX34_machine 12 = .ok (.iconst (-1), 1) := dk_2 (dk_at dksX34_machine_0 12 rfl rfl)
theorem dX34_machine_13 : decode cX34_machine 13 = .ok (.ireturn, 1) := dk_172 (dk_at dksX34_machine_0 13 rfl rfl)
theorem dX34_machine_14 : decode cX34_machine 14 = .ok (.aload_n 0, 1) := dk_42 (dk_at dksX34_machine_0 14 rfl rfl)
theorem dX34_machine_15 : decode cX34_machine 15 = .ok (.getfield 19, 3) := dk_180 0 19 (dk_at dksX34_machine_0 15 rfl rfl)
theorem dX34_machine_18 : decode cX34_machine 18 = .ok (.new 96, 3) := dk_187 0 96 (dk_at dksX34_machine_0 18 rfl rfl)
theorem dX34_machine_21 : decode cX34_machine 21 = .ok (.dup, 1) := dk_89 (dk_at dksX34_machine_0 21 rfl rfl)
theorem dX34_machine_22 : decode cX34_machine 22 = .ok (.aload_n 0, 1) := dk_42 (dk_at dksX34_machine_0 22 rfl rfl)
theorem dX34_machine_23 : decode cX34_machine 23 = .ok (.getfield 19, 3) := dk_180 0 19 (dk_at dksX34_machine_1 0 rfl rfl)
theorem dX34_machine_26 : decode cX34_machine 26 = .ok (.invokevirtual 66, 3) := dk_182 0 66 (dk_at dksX34_machine_1 3 rfl rfl)
theorem dX34_machine_29 : decode cX34_machine 29 = .ok (.invokespecial 98, 3) := dk_183 0 98 (dk_at dksX34_machine_1 6 rfl rfl)
theorem dX34_machine_32 : decode cX34_machine 32 = .ok (.invokevirtual 101, 3) := dk_182 0 101 (dk_at dksX34_machine_1 9 rfl rfl)
theorem dX34_machine_35 : decode cX34_machine 35 = .ok (.pop, 1) := dk_87 (dk_at dksX34_machine_1 12 rfl rfl)
theorem dX34_machine_36 : decode cX34_machine 36 = .ok (.aload_n 0, 1) := dk_42 (dk_at dksX34_machine_1 13 rfl rfl)
theorem dX34_machine_37 : decode cX34_machine 37 = .ok (.getfield 19, 3) := dk_180 0 19 (dk_at dksX34_machine_1 14 rfl rfl)
theorem dX34_machine_40 : decode cX34_machine 40 = .ok (.invokevirtual 66, 3) := dk_182 0 66 (dk_at dksX34_machine_1 17 rfl rfl)
theorem dX34_machine_43 : decode cX34_machine 43 = .ok (.iconst 1, 1) := dk_4 (dk_at dksX34_machine_1 20 rfl rfl)
theorem dX34_machine_44 : decode cX34_machine 44 = .ok (.isub, 1) := dk_100 (dk_at dksX34_machine_1 21 rfl rfl)
theorem dX34_machine_45 : decode cX34_machine 45 = .ok (.ireturn, 1) := dk_172 (dk_at dksX34_machine_1 22 rfl rfl)
abbrev cX34_shape : ByteArray := prog_9_method_10_code
def yX34_shape : MethodName := ⟨RX34, "shape", "(III)Z"⟩
def dkwX34_shape_1 : List UInt8 := [164, 0, 5, 3, 172, 42, 180, 0, 25, 27, 187, 0, 23, 89, 28, 29, 183, 0, 106, 83, 4, 172]
abbrev dktX34_shape_1 : List UInt8 := dkwX34_shape_1 ++ []
def dkwX34_shape_0 : List UInt8 := [27, 155, 0, 24, 27, 16, 8, 162, 0, 18, 28, 155, 0, 14, 28, 29, 163, 0, 9, 29, 18, 105]
abbrev dktX34_shape_0 : List UInt8 := dkwX34_shape_0 ++ dktX34_shape_1
theorem dksX34_shape_0 : cX34_shape.data.toList.drop 0 = dktX34_shape_0 := by decide +kernel
theorem dksX34_shape_1 : cX34_shape.data.toList.drop 22 = dktX34_shape_1 := dk_seg dksX34_shape_0 22 rfl rfl
theorem dX34_shape_0 : decode cX34_shape 0 = .ok (.iload_n 1, 1) := dk_27 (dk_at dksX34_shape_0 0 rfl rfl)
theorem dX34_shape_1 : decode cX34_shape 1 = .ok (.ifCond .lt 24, 3) := dk_155 0 24 (dk_at dksX34_shape_0 1 rfl rfl)
theorem dX34_shape_4 : decode cX34_shape 4 = .ok (.iload_n 1, 1) := dk_27 (dk_at dksX34_shape_0 4 rfl rfl)
theorem dX34_shape_5 : decode cX34_shape 5 = .ok (.bipush 8, 2) := dk_16 8 (dk_at dksX34_shape_0 5 rfl rfl)
theorem dX34_shape_7 : decode cX34_shape 7 = .ok (.if_icmp .ge 18, 3) := dk_162 0 18 (dk_at dksX34_shape_0 7 rfl rfl)
theorem dX34_shape_10 : decode cX34_shape 10 = .ok (.iload_n 2, 1) := dk_28 (dk_at dksX34_shape_0 10 rfl rfl)
theorem dX34_shape_11 : decode cX34_shape 11 = .ok (.ifCond .lt 14, 3) := dk_155 0 14 (dk_at dksX34_shape_0 11 rfl rfl)
theorem dX34_shape_14 : decode cX34_shape 14 = .ok (.iload_n 2, 1) := dk_28 (dk_at dksX34_shape_0 14 rfl rfl)
theorem dX34_shape_15 : decode cX34_shape 15 = .ok (.iload_n 3, 1) := dk_29 (dk_at dksX34_shape_0 15 rfl rfl)
theorem dX34_shape_16 : decode cX34_shape 16 = .ok (.if_icmp .gt 9, 3) := dk_163 0 9 (dk_at dksX34_shape_0 16 rfl rfl)
theorem dX34_shape_19 : decode cX34_shape 19 = .ok (.iload_n 3, 1) := dk_29 (dk_at dksX34_shape_0 19 rfl rfl)
theorem dX34_shape_20 : decode cX34_shape 20 = .ok (.ldc 105, 2) := dk_18 105 (dk_at dksX34_shape_0 20 rfl rfl)
theorem dX34_shape_22 : decode cX34_shape 22 = .ok (.if_icmp .le 5, 3) := dk_164 0 5 (dk_at dksX34_shape_1 0 rfl rfl)
theorem dX34_shape_25 : decode cX34_shape 25 = .ok (.iconst 0, 1) := dk_3 (dk_at dksX34_shape_1 3 rfl rfl)
theorem dX34_shape_26 : decode cX34_shape 26 = .ok (.ireturn, 1) := dk_172 (dk_at dksX34_shape_1 4 rfl rfl)
theorem dX34_shape_27 : decode cX34_shape 27 = .ok (.aload_n 0, 1) := dk_42 (dk_at dksX34_shape_1 5 rfl rfl)
theorem dX34_shape_28 : decode cX34_shape 28 = .ok (.getfield 25, 3) := dk_180 0 25 (dk_at dksX34_shape_1 6 rfl rfl)
theorem dX34_shape_31 : decode cX34_shape 31 = .ok (.iload_n 1, 1) := dk_27 (dk_at dksX34_shape_1 9 rfl rfl)
theorem dX34_shape_32 : decode cX34_shape 32 = .ok (.new 23, 3) := dk_187 0 23 (dk_at dksX34_shape_1 10 rfl rfl)
theorem dX34_shape_35 : decode cX34_shape 35 = .ok (.dup, 1) := dk_89 (dk_at dksX34_shape_1 13 rfl rfl)
theorem dX34_shape_36 : decode cX34_shape 36 = .ok (.iload_n 2, 1) := dk_28 (dk_at dksX34_shape_1 14 rfl rfl)
theorem dX34_shape_37 : decode cX34_shape 37 = .ok (.iload_n 3, 1) := dk_29 (dk_at dksX34_shape_1 15 rfl rfl)
theorem dX34_shape_38 : decode cX34_shape 38 = .ok (.invokespecial 106, 3) := dk_183 0 106 (dk_at dksX34_shape_1 16 rfl rfl)
theorem dX34_shape_41 : decode cX34_shape 41 = .ok (.aastore, 1) := dk_83 (dk_at dksX34_shape_1 19 rfl rfl)
theorem dX34_shape_42 : decode cX34_shape 42 = .ok (.iconst 1, 1) := dk_4 (dk_at dksX34_shape_1 20 rfl rfl)
theorem dX34_shape_43 : decode cX34_shape 43 = .ok (.ireturn, 1) := dk_172 (dk_at dksX34_shape_1 21 rfl rfl)
abbrev cX34_full : ByteArray := prog_9_method_11_code
def yX34_full : MethodName := ⟨RX34, "full", "(IZ)Z"⟩
def dkwX34_full_1 : List UInt8 := [181, 0, 116, 4, 172]
abbrev dktX34_full_1 : List UInt8 := dkwX34_full_1 ++ []
def dkwX34_full_0 : List UInt8 := [42, 27, 182, 0, 108, 154, 0, 5, 3, 172, 42, 180, 0, 19, 27, 182, 0, 112, 192, 0, 96, 28]
abbrev dktX34_full_0 : List UInt8 := dkwX34_full_0 ++ dktX34_full_1
theorem dksX34_full_0 : cX34_full.data.toList.drop 0 = dktX34_full_0 := by decide +kernel
theorem dksX34_full_1 : cX34_full.data.toList.drop 22 = dktX34_full_1 := dk_seg dksX34_full_0 22 rfl rfl
theorem dX34_full_0 : decode cX34_full 0 = .ok (.aload_n 0, 1) := dk_42 (dk_at dksX34_full_0 0 rfl rfl)
theorem dX34_full_1 : decode cX34_full 1 = .ok (.iload_n 1, 1) := dk_27 (dk_at dksX34_full_0 1 rfl rfl)
theorem dX34_full_2 : decode cX34_full 2 = .ok (.invokevirtual 108, 3) := dk_182 0 108 (dk_at dksX34_full_0 2 rfl rfl)
theorem dX34_full_5 : decode cX34_full 5 = .ok (.ifCond .ne 5, 3) := dk_154 0 5 (dk_at dksX34_full_0 5 rfl rfl)
theorem dX34_full_8 : decode cX34_full 8 = .ok (.iconst 0, 1) := dk_3 (dk_at dksX34_full_0 8 rfl rfl)
theorem dX34_full_9 : decode cX34_full 9 = .ok (.ireturn, 1) := dk_172 (dk_at dksX34_full_0 9 rfl rfl)
theorem dX34_full_10 : decode cX34_full 10 = .ok (.aload_n 0, 1) := dk_42 (dk_at dksX34_full_0 10 rfl rfl)
theorem dX34_full_11 : decode cX34_full 11 = .ok (.getfield 19, 3) := dk_180 0 19 (dk_at dksX34_full_0 11 rfl rfl)
theorem dX34_full_14 : decode cX34_full 14 = .ok (.iload_n 1, 1) := dk_27 (dk_at dksX34_full_0 14 rfl rfl)
theorem dX34_full_15 : decode cX34_full 15 = .ok (.invokevirtual 112, 3) := dk_182 0 112 (dk_at dksX34_full_0 15 rfl rfl)
theorem dX34_full_18 : decode cX34_full 18 = .ok (.checkcast 96, 3) := dk_192 0 96 (dk_at dksX34_full_0 18 rfl rfl)
theorem dX34_full_21 : decode cX34_full 21 = .ok (.iload_n 2, 1) := dk_28 (dk_at dksX34_full_0 21 rfl rfl)
theorem dX34_full_22 : decode cX34_full 22 = .ok (.putfield 116, 3) := dk_181 0 116 (dk_at dksX34_full_1 0 rfl rfl)
theorem dX34_full_25 : decode cX34_full 25 = .ok (.iconst 1, 1) := dk_4 (dk_at dksX34_full_1 3 rfl rfl)
theorem dX34_full_26 : decode cX34_full 26 = .ok (.ireturn, 1) := dk_172 (dk_at dksX34_full_1 4 rfl rfl)
abbrev cX34_isMachine : ByteArray := prog_9_method_2_code
def yX34_isMachine : MethodName := ⟨RX34, "isMachine", "(I)Z"⟩
def dkwX34_isMachine_0 : List UInt8 := [27, 155, 0, 18, 27, 42, 180, 0, 19, 182, 0, 66, 162, 0, 7, 4, 167, 0, 4, 3, 172]
abbrev dktX34_isMachine_0 : List UInt8 := dkwX34_isMachine_0 ++ []
theorem dksX34_isMachine_0 : cX34_isMachine.data.toList.drop 0 = dktX34_isMachine_0 := by decide +kernel
theorem dX34_isMachine_0 : decode cX34_isMachine 0 = .ok (.iload_n 1, 1) := dk_27 (dk_at dksX34_isMachine_0 0 rfl rfl)
theorem dX34_isMachine_1 : decode cX34_isMachine 1 = .ok (.ifCond .lt 18, 3) := dk_155 0 18 (dk_at dksX34_isMachine_0 1 rfl rfl)
theorem dX34_isMachine_4 : decode cX34_isMachine 4 = .ok (.iload_n 1, 1) := dk_27 (dk_at dksX34_isMachine_0 4 rfl rfl)
theorem dX34_isMachine_5 : decode cX34_isMachine 5 = .ok (.aload_n 0, 1) := dk_42 (dk_at dksX34_isMachine_0 5 rfl rfl)
theorem dX34_isMachine_6 : decode cX34_isMachine 6 = .ok (.getfield 19, 3) := dk_180 0 19 (dk_at dksX34_isMachine_0 6 rfl rfl)
theorem dX34_isMachine_9 : decode cX34_isMachine 9 = .ok (.invokevirtual 66, 3) := dk_182 0 66 (dk_at dksX34_isMachine_0 9 rfl rfl)
theorem dX34_isMachine_12 : decode cX34_isMachine 12 = .ok (.if_icmp .ge 7, 3) := dk_162 0 7 (dk_at dksX34_isMachine_0 12 rfl rfl)
theorem dX34_isMachine_15 : decode cX34_isMachine 15 = .ok (.iconst 1, 1) := dk_4 (dk_at dksX34_isMachine_0 15 rfl rfl)
theorem dX34_isMachine_16 : decode cX34_isMachine 16 = .ok (.goto 4, 3) := dk_167 0 4 (dk_at dksX34_isMachine_0 16 rfl rfl)
theorem dX34_isMachine_19 : decode cX34_isMachine 19 = .ok (.iconst 0, 1) := dk_3 (dk_at dksX34_isMachine_0 19 rfl rfl)
theorem dX34_isMachine_20 : decode cX34_isMachine 20 = .ok (.ireturn, 1) := dk_172 (dk_at dksX34_isMachine_0 20 rfl rfl)
abbrev cX34_power : ByteArray := prog_9_method_12_code
def yX34_power : MethodName := ⟨RX34, "power", "(IZ)Z"⟩
def dkwX34_power_1 : List UInt8 := [181, 0, 120, 4, 172]
abbrev dktX34_power_1 : List UInt8 := dkwX34_power_1 ++ []
def dkwX34_power_0 : List UInt8 := [42, 27, 182, 0, 108, 154, 0, 5, 3, 172, 42, 180, 0, 19, 27, 182, 0, 112, 192, 0, 96, 28]
abbrev dktX34_power_0 : List UInt8 := dkwX34_power_0 ++ dktX34_power_1
theorem dksX34_power_0 : cX34_power.data.toList.drop 0 = dktX34_power_0 := by decide +kernel
theorem dksX34_power_1 : cX34_power.data.toList.drop 22 = dktX34_power_1 := dk_seg dksX34_power_0 22 rfl rfl
theorem dX34_power_0 : decode cX34_power 0 = .ok (.aload_n 0, 1) := dk_42 (dk_at dksX34_power_0 0 rfl rfl)
theorem dX34_power_1 : decode cX34_power 1 = .ok (.iload_n 1, 1) := dk_27 (dk_at dksX34_power_0 1 rfl rfl)
theorem dX34_power_2 : decode cX34_power 2 = .ok (.invokevirtual 108, 3) := dk_182 0 108 (dk_at dksX34_power_0 2 rfl rfl)
theorem dX34_power_5 : decode cX34_power 5 = .ok (.ifCond .ne 5, 3) := dk_154 0 5 (dk_at dksX34_power_0 5 rfl rfl)
theorem dX34_power_8 : decode cX34_power 8 = .ok (.iconst 0, 1) := dk_3 (dk_at dksX34_power_0 8 rfl rfl)
theorem dX34_power_9 : decode cX34_power 9 = .ok (.ireturn, 1) := dk_172 (dk_at dksX34_power_0 9 rfl rfl)
theorem dX34_power_10 : decode cX34_power 10 = .ok (.aload_n 0, 1) := dk_42 (dk_at dksX34_power_0 10 rfl rfl)
theorem dX34_power_11 : decode cX34_power 11 = .ok (.getfield 19, 3) := dk_180 0 19 (dk_at dksX34_power_0 11 rfl rfl)
theorem dX34_power_14 : decode cX34_power 14 = .ok (.iload_n 1, 1) := dk_27 (dk_at dksX34_power_0 14 rfl rfl)
theorem dX34_power_15 : decode cX34_power 15 = .ok (.invokevirtual 112, 3) := dk_182 0 112 (dk_at dksX34_power_0 15 rfl rfl)
theorem dX34_power_18 : decode cX34_power 18 = .ok (.checkcast 96, 3) := dk_192 0 96 (dk_at dksX34_power_0 18 rfl rfl)
theorem dX34_power_21 : decode cX34_power 21 = .ok (.iload_n 2, 1) := dk_28 (dk_at dksX34_power_0 21 rfl rfl)
theorem dX34_power_22 : decode cX34_power 22 = .ok (.putfield 120, 3) := dk_181 0 120 (dk_at dksX34_power_1 0 rfl rfl)
theorem dX34_power_25 : decode cX34_power 25 = .ok (.iconst 1, 1) := dk_4 (dk_at dksX34_power_1 3 rfl rfl)
theorem dX34_power_26 : decode cX34_power 26 = .ok (.ireturn, 1) := dk_172 (dk_at dksX34_power_1 4 rfl rfl)
abbrev cX34_give : ByteArray := prog_9_method_14_code
def yX34_give : MethodName := ⟨RX34, "give", "(IJIIJ)I"⟩
def dkwX34_give_6 : List UInt8 := [182, 0, 173, 87, 21, 9, 6, 112, 154, 0, 14, 42, 180, 0, 42, 27, 184, 0, 170, 182, 0, 177, 3, 172]
abbrev dktX34_give_6 : List UInt8 := dkwX34_give_6 ++ []
def dkwX34_give_5 : List UInt8 := [25, 8, 182, 0, 167, 4, 96, 54, 9, 42, 180, 0, 35, 32, 184, 0, 134, 21, 9, 184, 0, 170]
abbrev dktX34_give_5 : List UInt8 := dkwX34_give_5 ++ dktX34_give_6
def dkwX34_give_4 : List UInt8 := [180, 0, 35, 32, 184, 0, 134, 182, 0, 162, 192, 0, 165, 58, 8, 25, 8, 199, 0, 7, 4, 167, 0, 10]
abbrev dktX34_give_4 : List UInt8 := dkwX34_give_4 ++ dktX34_give_5
def dkwX34_give_3 : List UInt8 := [21, 4, 22, 6, 20, 0, 156, 109, 136, 182, 0, 158, 4, 172, 42, 180, 0, 153, 16, 7, 160, 0, 72, 42]
abbrev dktX34_give_3 : List UInt8 := dkwX34_give_3 ++ dktX34_give_4
def dkwX34_give_2 : List UInt8 := [181, 0, 153, 42, 180, 0, 153, 154, 0, 30, 42, 42, 180, 0, 19, 27, 182, 0, 112, 192, 0, 96, 32]
abbrev dktX34_give_2 : List UInt8 := dkwX34_give_2 ++ dktX34_give_3
def dkwX34_give_1 : List UInt8 := [180, 0, 145, 17, 0, 200, 160, 0, 5, 2, 172, 42, 42, 27, 32, 21, 4, 21, 5, 182, 0, 149]
abbrev dktX34_give_1 : List UInt8 := dkwX34_give_1 ++ dktX34_give_2
def dkwX34_give_0 : List UInt8 := [32, 184, 0, 82, 153, 0, 29, 22, 6, 9, 148, 155, 0, 22, 22, 6, 20, 0, 143, 148, 157, 0, 13, 42]
abbrev dktX34_give_0 : List UInt8 := dkwX34_give_0 ++ dktX34_give_1
theorem dksX34_give_0 : cX34_give.data.toList.drop 0 = dktX34_give_0 := by decide +kernel
theorem dksX34_give_1 : cX34_give.data.toList.drop 24 = dktX34_give_1 := dk_seg dksX34_give_0 24 rfl rfl
theorem dksX34_give_2 : cX34_give.data.toList.drop 46 = dktX34_give_2 := dk_seg dksX34_give_1 22 rfl rfl
theorem dksX34_give_3 : cX34_give.data.toList.drop 69 = dktX34_give_3 := dk_seg dksX34_give_2 23 rfl rfl
theorem dksX34_give_4 : cX34_give.data.toList.drop 93 = dktX34_give_4 := dk_seg dksX34_give_3 24 rfl rfl
theorem dksX34_give_5 : cX34_give.data.toList.drop 117 = dktX34_give_5 := dk_seg dksX34_give_4 24 rfl rfl
theorem dksX34_give_6 : cX34_give.data.toList.drop 139 = dktX34_give_6 := dk_seg dksX34_give_5 22 rfl rfl
theorem dX34_give_0 : decode cX34_give 0 = .ok (.lload_n 2, 1) := dk_32 (dk_at dksX34_give_0 0 rfl rfl)
theorem dX34_give_1 : decode cX34_give 1 = .ok (.invokestatic 82, 3) := dk_184 0 82 (dk_at dksX34_give_0 1 rfl rfl)
theorem dX34_give_4 : decode cX34_give 4 = .ok (.ifCond .eq 29, 3) := dk_153 0 29 (dk_at dksX34_give_0 4 rfl rfl)
theorem dX34_give_7 : decode cX34_give 7 = .ok (.lload 6, 2) := dk_22 6 (dk_at dksX34_give_0 7 rfl rfl)
theorem dX34_give_9 : decode cX34_give 9 = .ok (.lconst 0, 1) := dk_9 (dk_at dksX34_give_0 9 rfl rfl)
theorem dX34_give_10 : decode cX34_give 10 = .ok (.lcmp, 1) := dk_148 (dk_at dksX34_give_0 10 rfl rfl)
theorem dX34_give_11 : decode cX34_give 11 = .ok (.ifCond .lt 22, 3) := dk_155 0 22 (dk_at dksX34_give_0 11 rfl rfl)
theorem dX34_give_14 : decode cX34_give 14 = .ok (.lload 6, 2) := dk_22 6 (dk_at dksX34_give_0 14 rfl rfl)
theorem dX34_give_16 : decode cX34_give 16 = .ok (.ldc2_w 143, 3) := dk_20 0 143 (dk_at dksX34_give_0 16 rfl rfl)
theorem dX34_give_19 : decode cX34_give 19 = .ok (.lcmp, 1) := dk_148 (dk_at dksX34_give_0 19 rfl rfl)
theorem dX34_give_20 : decode cX34_give 20 = .ok (.ifCond .gt 13, 3) := dk_157 0 13 (dk_at dksX34_give_0 20 rfl rfl)
theorem dX34_give_23 : decode cX34_give 23 = .ok (.aload_n 0, 1) := dk_42 (dk_at dksX34_give_0 23 rfl rfl)
theorem dX34_give_24 : decode cX34_give 24 = .ok (.getfield 145, 3) := dk_180 0 145 (dk_at dksX34_give_1 0 rfl rfl)
theorem dX34_give_27 : decode cX34_give 27 = .ok (.sipush 200, 3) := dk_17 0 200 (dk_at dksX34_give_1 3 rfl rfl)
theorem dX34_give_30 : decode cX34_give 30 = .ok (.if_icmp .ne 5, 3) := dk_160 0 5 (dk_at dksX34_give_1 6 rfl rfl)
theorem dX34_give_33 : decode cX34_give 33 = .ok (.iconst (-1), 1) := dk_2 (dk_at dksX34_give_1 9 rfl rfl)
theorem dX34_give_34 : decode cX34_give 34 = .ok (.ireturn, 1) := dk_172 (dk_at dksX34_give_1 10 rfl rfl)
theorem dX34_give_35 : decode cX34_give 35 = .ok (.aload_n 0, 1) := dk_42 (dk_at dksX34_give_1 11 rfl rfl)
theorem dX34_give_36 : decode cX34_give 36 = .ok (.aload_n 0, 1) := dk_42 (dk_at dksX34_give_1 12 rfl rfl)
theorem dX34_give_37 : decode cX34_give 37 = .ok (.iload_n 1, 1) := dk_27 (dk_at dksX34_give_1 13 rfl rfl)
theorem dX34_give_38 : decode cX34_give 38 = .ok (.lload_n 2, 1) := dk_32 (dk_at dksX34_give_1 14 rfl rfl)
theorem dX34_give_39 : decode cX34_give 39 = .ok (.iload 4, 2) := dk_21 4 (dk_at dksX34_give_1 15 rfl rfl)
theorem dX34_give_41 : decode cX34_give 41 = .ok (.iload 5, 2) := dk_21 5 (dk_at dksX34_give_1 17 rfl rfl)
theorem dX34_give_43 : decode cX34_give 43 = .ok (.invokevirtual 149, 3) := dk_182 0 149 (dk_at dksX34_give_1 19 rfl rfl)
theorem dX34_give_46 : decode cX34_give 46 = .ok (.putfield 153, 3) := dk_181 0 153 (dk_at dksX34_give_2 0 rfl rfl)
theorem dX34_give_49 : decode cX34_give 49 = .ok (.aload_n 0, 1) := dk_42 (dk_at dksX34_give_2 3 rfl rfl)
theorem dX34_give_50 : decode cX34_give 50 = .ok (.getfield 153, 3) := dk_180 0 153 (dk_at dksX34_give_2 4 rfl rfl)
theorem dX34_give_53 : decode cX34_give 53 = .ok (.ifCond .ne 30, 3) := dk_154 0 30 (dk_at dksX34_give_2 7 rfl rfl)
theorem dX34_give_56 : decode cX34_give 56 = .ok (.aload_n 0, 1) := dk_42 (dk_at dksX34_give_2 10 rfl rfl)
theorem dX34_give_57 : decode cX34_give 57 = .ok (.aload_n 0, 1) := dk_42 (dk_at dksX34_give_2 11 rfl rfl)
theorem dX34_give_58 : decode cX34_give 58 = .ok (.getfield 19, 3) := dk_180 0 19 (dk_at dksX34_give_2 12 rfl rfl)
theorem dX34_give_61 : decode cX34_give 61 = .ok (.iload_n 1, 1) := dk_27 (dk_at dksX34_give_2 15 rfl rfl)
theorem dX34_give_62 : decode cX34_give 62 = .ok (.invokevirtual 112, 3) := dk_182 0 112 (dk_at dksX34_give_2 16 rfl rfl)
theorem dX34_give_65 : decode cX34_give 65 = .ok (.checkcast 96, 3) := dk_192 0 96 (dk_at dksX34_give_2 19 rfl rfl)
theorem dX34_give_68 : decode cX34_give 68 = .ok (.lload_n 2, 1) := dk_32 (dk_at dksX34_give_2 22 rfl rfl)
theorem dX34_give_69 : decode cX34_give 69 = .ok (.iload 4, 2) := dk_21 4 (dk_at dksX34_give_3 0 rfl rfl)
theorem dX34_give_71 : decode cX34_give 71 = .ok (.lload 6, 2) := dk_22 6 (dk_at dksX34_give_3 2 rfl rfl)
theorem dX34_give_73 : decode cX34_give 73 = .ok (.ldc2_w 156, 3) := dk_20 0 156 (dk_at dksX34_give_3 4 rfl rfl)
theorem dX34_give_76 : decode cX34_give 76 = .ok (.ldiv, 1) := dk_109 (dk_at dksX34_give_3 7 rfl rfl)
theorem dX34_give_77 : decode cX34_give 77 = .ok (.l2i, 1) := dk_136 (dk_at dksX34_give_3 8 rfl rfl)
theorem dX34_give_78 : decode cX34_give 78 = .ok (.invokevirtual 158, 3) := dk_182 0 158 (dk_at dksX34_give_3 9 rfl rfl)
theorem dX34_give_81 : decode cX34_give 81 = .ok (.iconst 1, 1) := dk_4 (dk_at dksX34_give_3 12 rfl rfl)
theorem dX34_give_82 : decode cX34_give 82 = .ok (.ireturn, 1) := dk_172 (dk_at dksX34_give_3 13 rfl rfl)
theorem dX34_give_83 : decode cX34_give 83 = .ok (.aload_n 0, 1) := dk_42 (dk_at dksX34_give_3 14 rfl rfl)
theorem dX34_give_84 : decode cX34_give 84 = .ok (.getfield 153, 3) := dk_180 0 153 (dk_at dksX34_give_3 15 rfl rfl)
theorem dX34_give_87 : decode cX34_give 87 = .ok (.bipush 7, 2) := dk_16 7 (dk_at dksX34_give_3 18 rfl rfl)
theorem dX34_give_89 : decode cX34_give 89 = .ok (.if_icmp .ne 72, 3) := dk_160 0 72 (dk_at dksX34_give_3 20 rfl rfl)
theorem dX34_give_92 : decode cX34_give 92 = .ok (.aload_n 0, 1) := dk_42 (dk_at dksX34_give_3 23 rfl rfl)
theorem dX34_give_93 : decode cX34_give 93 = .ok (.getfield 35, 3) := dk_180 0 35 (dk_at dksX34_give_4 0 rfl rfl)
theorem dX34_give_96 : decode cX34_give 96 = .ok (.lload_n 2, 1) := dk_32 (dk_at dksX34_give_4 3 rfl rfl)
theorem dX34_give_97 : decode cX34_give 97 = .ok (.invokestatic 134, 3) := dk_184 0 134 (dk_at dksX34_give_4 4 rfl rfl)
theorem dX34_give_100 : decode cX34_give 100 = .ok (.invokevirtual 162, 3) := dk_182 0 162 (dk_at dksX34_give_4 7 rfl rfl)
theorem dX34_give_103 : decode cX34_give 103 = .ok (.checkcast 165, 3) := dk_192 0 165 (dk_at dksX34_give_4 10 rfl rfl)
theorem dX34_give_106 : decode cX34_give 106 = .ok (.astore 8, 2) := dk_58 8 (dk_at dksX34_give_4 13 rfl rfl)
theorem dX34_give_108 : decode cX34_give 108 = .ok (.aload 8, 2) := dk_25 8 (dk_at dksX34_give_4 15 rfl rfl)
theorem dX34_give_110 : decode cX34_give 110 = .ok (.ifnonnull 7, 3) := dk_199 0 7 (dk_at dksX34_give_4 17 rfl rfl)
theorem dX34_give_113 : decode cX34_give 113 = .ok (.iconst 1, 1) := dk_4 (dk_at dksX34_give_4 20 rfl rfl)
theorem dX34_give_114 : decode cX34_give 114 = .ok (.goto 10, 3) := dk_167 0 10 (dk_at dksX34_give_4 21 rfl rfl)
theorem dX34_give_117 : decode cX34_give 117 = .ok (.aload 8, 2) := dk_25 8 (dk_at dksX34_give_5 0 rfl rfl)
theorem dX34_give_119 : decode cX34_give 119 = .ok (.invokevirtual 167, 3) := dk_182 0 167 (dk_at dksX34_give_5 2 rfl rfl)
theorem dX34_give_122 : decode cX34_give 122 = .ok (.iconst 1, 1) := dk_4 (dk_at dksX34_give_5 5 rfl rfl)
theorem dX34_give_123 : decode cX34_give 123 = .ok (.iadd, 1) := dk_96 (dk_at dksX34_give_5 6 rfl rfl)
theorem dX34_give_124 : decode cX34_give 124 = .ok (.istore 9, 2) := dk_54 9 (dk_at dksX34_give_5 7 rfl rfl)
theorem dX34_give_126 : decode cX34_give 126 = .ok (.aload_n 0, 1) := dk_42 (dk_at dksX34_give_5 9 rfl rfl)
theorem dX34_give_127 : decode cX34_give 127 = .ok (.getfield 35, 3) := dk_180 0 35 (dk_at dksX34_give_5 10 rfl rfl)
theorem dX34_give_130 : decode cX34_give 130 = .ok (.lload_n 2, 1) := dk_32 (dk_at dksX34_give_5 13 rfl rfl)
theorem dX34_give_131 : decode cX34_give 131 = .ok (.invokestatic 134, 3) := dk_184 0 134 (dk_at dksX34_give_5 14 rfl rfl)
theorem dX34_give_134 : decode cX34_give 134 = .ok (.iload 9, 2) := dk_21 9 (dk_at dksX34_give_5 17 rfl rfl)
theorem dX34_give_136 : decode cX34_give 136 = .ok (.invokestatic 170, 3) := dk_184 0 170 (dk_at dksX34_give_5 19 rfl rfl)
theorem dX34_give_139 : decode cX34_give 139 = .ok (.invokevirtual 173, 3) := dk_182 0 173 (dk_at dksX34_give_6 0 rfl rfl)
theorem dX34_give_142 : decode cX34_give 142 = .ok (.pop, 1) := dk_87 (dk_at dksX34_give_6 3 rfl rfl)
theorem dX34_give_143 : decode cX34_give 143 = .ok (.iload 9, 2) := dk_21 9 (dk_at dksX34_give_6 4 rfl rfl)
theorem dX34_give_145 : decode cX34_give 145 = .ok (.iconst 3, 1) := dk_6 (dk_at dksX34_give_6 6 rfl rfl)
theorem dX34_give_146 : decode cX34_give 146 = .ok (.irem, 1) := dk_112 (dk_at dksX34_give_6 7 rfl rfl)
theorem dX34_give_147 : decode cX34_give 147 = .ok (.ifCond .ne 14, 3) := dk_154 0 14 (dk_at dksX34_give_6 8 rfl rfl)
theorem dX34_give_150 : decode cX34_give 150 = .ok (.aload_n 0, 1) := dk_42 (dk_at dksX34_give_6 11 rfl rfl)
theorem dX34_give_151 : decode cX34_give 151 = .ok (.getfield 42, 3) := dk_180 0 42 (dk_at dksX34_give_6 12 rfl rfl)
theorem dX34_give_154 : decode cX34_give 154 = .ok (.iload_n 1, 1) := dk_27 (dk_at dksX34_give_6 15 rfl rfl)
theorem dX34_give_155 : decode cX34_give 155 = .ok (.invokestatic 170, 3) := dk_184 0 170 (dk_at dksX34_give_6 16 rfl rfl)
theorem dX34_give_158 : decode cX34_give 158 = .ok (.invokevirtual 177, 3) := dk_182 0 177 (dk_at dksX34_give_6 19 rfl rfl)
theorem dX34_give_161 : decode cX34_give 161 = .ok (.iconst 0, 1) := dk_3 (dk_at dksX34_give_6 22 rfl rfl)
theorem dX34_give_162 : decode cX34_give 162 = .ok (.ireturn, 1) := dk_172 (dk_at dksX34_give_6 23 rfl rfl)
abbrev cX34_reasonFor : ByteArray := prog_9_method_13_code
def yX34_reasonFor : MethodName := ⟨RX34, "reasonFor", "(IJII)I"⟩
def dkwX34_reasonFor_5 : List UInt8 := [167, 0, 4, 3, 172]
abbrev dktX34_reasonFor_5 : List UInt8 := dkwX34_reasonFor_5 ++ []
def dkwX34_reasonFor_4 : List UInt8 := [16, 6, 172, 25, 6, 180, 0, 126, 180, 0, 129, 32, 184, 0, 134, 182, 0, 140, 153, 0, 8, 16, 7]
abbrev dktX34_reasonFor_4 : List UInt8 := dkwX34_reasonFor_4 ++ dktX34_reasonFor_5
def dkwX34_reasonFor_3 : List UInt8 := [180, 0, 25, 21, 4, 50, 21, 5, 182, 0, 123, 154, 0, 5, 8, 172, 3, 32, 184, 0, 92, 154, 0, 6]
abbrev dktX34_reasonFor_3 : List UInt8 := dkwX34_reasonFor_3 ++ dktX34_reasonFor_4
def dkwX34_reasonFor_2 : List UInt8 := [155, 0, 20, 21, 4, 16, 8, 162, 0, 13, 42, 180, 0, 25, 21, 4, 50, 199, 0, 5, 7, 172, 42]
abbrev dktX34_reasonFor_2 : List UInt8 := dkwX34_reasonFor_2 ++ dktX34_reasonFor_3
def dkwX34_reasonFor_1 : List UInt8 := [25, 6, 180, 0, 116, 153, 0, 5, 5, 172, 25, 6, 180, 0, 120, 154, 0, 5, 6, 172, 21, 4]
abbrev dktX34_reasonFor_1 : List UInt8 := dkwX34_reasonFor_1 ++ dktX34_reasonFor_2
def dkwX34_reasonFor_0 : List UInt8 := [42, 27, 182, 0, 108, 154, 0, 5, 4, 172, 42, 180, 0, 19, 27, 182, 0, 112, 192, 0, 96, 58, 6]
abbrev dktX34_reasonFor_0 : List UInt8 := dkwX34_reasonFor_0 ++ dktX34_reasonFor_1
theorem dksX34_reasonFor_0 : cX34_reasonFor.data.toList.drop 0 = dktX34_reasonFor_0 := by decide +kernel
theorem dksX34_reasonFor_1 : cX34_reasonFor.data.toList.drop 23 = dktX34_reasonFor_1 := dk_seg dksX34_reasonFor_0 23 rfl rfl
theorem dksX34_reasonFor_2 : cX34_reasonFor.data.toList.drop 45 = dktX34_reasonFor_2 := dk_seg dksX34_reasonFor_1 22 rfl rfl
theorem dksX34_reasonFor_3 : cX34_reasonFor.data.toList.drop 68 = dktX34_reasonFor_3 := dk_seg dksX34_reasonFor_2 23 rfl rfl
theorem dksX34_reasonFor_4 : cX34_reasonFor.data.toList.drop 92 = dktX34_reasonFor_4 := dk_seg dksX34_reasonFor_3 24 rfl rfl
theorem dksX34_reasonFor_5 : cX34_reasonFor.data.toList.drop 115 = dktX34_reasonFor_5 := dk_seg dksX34_reasonFor_4 23 rfl rfl
theorem dX34_reasonFor_0 : decode cX34_reasonFor 0 = .ok (.aload_n 0, 1) := dk_42 (dk_at dksX34_reasonFor_0 0 rfl rfl)
theorem dX34_reasonFor_1 : decode cX34_reasonFor 1 = .ok (.iload_n 1, 1) := dk_27 (dk_at dksX34_reasonFor_0 1 rfl rfl)
theorem dX34_reasonFor_2 : decode cX34_reasonFor 2 = .ok (.invokevirtual 108, 3) := dk_182 0 108 (dk_at dksX34_reasonFor_0 2 rfl rfl)
theorem dX34_reasonFor_5 : decode cX34_reasonFor 5 = .ok (.ifCond .ne 5, 3) := dk_154 0 5 (dk_at dksX34_reasonFor_0 5 rfl rfl)
theorem dX34_reasonFor_8 : decode cX34_reasonFor 8 = .ok (.iconst 1, 1) := dk_4 (dk_at dksX34_reasonFor_0 8 rfl rfl)
theorem dX34_reasonFor_9 : decode cX34_reasonFor 9 = .ok (.ireturn, 1) := dk_172 (dk_at dksX34_reasonFor_0 9 rfl rfl)
theorem dX34_reasonFor_10 : decode cX34_reasonFor 10 = .ok (.aload_n 0, 1) := dk_42 (dk_at dksX34_reasonFor_0 10 rfl rfl)
theorem dX34_reasonFor_11 : decode cX34_reasonFor 11 = .ok (.getfield 19, 3) := dk_180 0 19 (dk_at dksX34_reasonFor_0 11 rfl rfl)
theorem dX34_reasonFor_14 : decode cX34_reasonFor 14 = .ok (.iload_n 1, 1) := dk_27 (dk_at dksX34_reasonFor_0 14 rfl rfl)
theorem dX34_reasonFor_15 : decode cX34_reasonFor 15 = .ok (.invokevirtual 112, 3) := dk_182 0 112 (dk_at dksX34_reasonFor_0 15 rfl rfl)
theorem dX34_reasonFor_18 : decode cX34_reasonFor 18 = .ok (.checkcast 96, 3) := dk_192 0 96 (dk_at dksX34_reasonFor_0 18 rfl rfl)
theorem dX34_reasonFor_21 : decode cX34_reasonFor 21 = .ok (.astore 6, 2) := dk_58 6 (dk_at dksX34_reasonFor_0 21 rfl rfl)
theorem dX34_reasonFor_23 : decode cX34_reasonFor 23 = .ok (.aload 6, 2) := dk_25 6 (dk_at dksX34_reasonFor_1 0 rfl rfl)
theorem dX34_reasonFor_25 : decode cX34_reasonFor 25 = .ok (.getfield 116, 3) := dk_180 0 116 (dk_at dksX34_reasonFor_1 2 rfl rfl)
theorem dX34_reasonFor_28 : decode cX34_reasonFor 28 = .ok (.ifCond .eq 5, 3) := dk_153 0 5 (dk_at dksX34_reasonFor_1 5 rfl rfl)
theorem dX34_reasonFor_31 : decode cX34_reasonFor 31 = .ok (.iconst 2, 1) := dk_5 (dk_at dksX34_reasonFor_1 8 rfl rfl)
theorem dX34_reasonFor_32 : decode cX34_reasonFor 32 = .ok (.ireturn, 1) := dk_172 (dk_at dksX34_reasonFor_1 9 rfl rfl)
theorem dX34_reasonFor_33 : decode cX34_reasonFor 33 = .ok (.aload 6, 2) := dk_25 6 (dk_at dksX34_reasonFor_1 10 rfl rfl)
theorem dX34_reasonFor_35 : decode cX34_reasonFor 35 = .ok (.getfield 120, 3) := dk_180 0 120 (dk_at dksX34_reasonFor_1 12 rfl rfl)
theorem dX34_reasonFor_38 : decode cX34_reasonFor 38 = .ok (.ifCond .ne 5, 3) := dk_154 0 5 (dk_at dksX34_reasonFor_1 15 rfl rfl)
theorem dX34_reasonFor_41 : decode cX34_reasonFor 41 = .ok (.iconst 3, 1) := dk_6 (dk_at dksX34_reasonFor_1 18 rfl rfl)
theorem dX34_reasonFor_42 : decode cX34_reasonFor 42 = .ok (.ireturn, 1) := dk_172 (dk_at dksX34_reasonFor_1 19 rfl rfl)
theorem dX34_reasonFor_43 : decode cX34_reasonFor 43 = .ok (.iload 4, 2) := dk_21 4 (dk_at dksX34_reasonFor_1 20 rfl rfl)
theorem dX34_reasonFor_45 : decode cX34_reasonFor 45 = .ok (.ifCond .lt 20, 3) := dk_155 0 20 (dk_at dksX34_reasonFor_2 0 rfl rfl)
theorem dX34_reasonFor_48 : decode cX34_reasonFor 48 = .ok (.iload 4, 2) := dk_21 4 (dk_at dksX34_reasonFor_2 3 rfl rfl)
theorem dX34_reasonFor_50 : decode cX34_reasonFor 50 = .ok (.bipush 8, 2) := dk_16 8 (dk_at dksX34_reasonFor_2 5 rfl rfl)
theorem dX34_reasonFor_52 : decode cX34_reasonFor 52 = .ok (.if_icmp .ge 13, 3) := dk_162 0 13 (dk_at dksX34_reasonFor_2 7 rfl rfl)
theorem dX34_reasonFor_55 : decode cX34_reasonFor 55 = .ok (.aload_n 0, 1) := dk_42 (dk_at dksX34_reasonFor_2 10 rfl rfl)
theorem dX34_reasonFor_56 : decode cX34_reasonFor 56 = .ok (.getfield 25, 3) := dk_180 0 25 (dk_at dksX34_reasonFor_2 11 rfl rfl)
theorem dX34_reasonFor_59 : decode cX34_reasonFor 59 = .ok (.iload 4, 2) := dk_21 4 (dk_at dksX34_reasonFor_2 14 rfl rfl)
theorem dX34_reasonFor_61 : decode cX34_reasonFor 61 = .ok (.aaload, 1) := dk_50 (dk_at dksX34_reasonFor_2 16 rfl rfl)
theorem dX34_reasonFor_62 : decode cX34_reasonFor 62 = .ok (.ifnonnull 5, 3) := dk_199 0 5 (dk_at dksX34_reasonFor_2 17 rfl rfl)
theorem dX34_reasonFor_65 : decode cX34_reasonFor 65 = .ok (.iconst 4, 1) := dk_7 (dk_at dksX34_reasonFor_2 20 rfl rfl)
theorem dX34_reasonFor_66 : decode cX34_reasonFor 66 = .ok (.ireturn, 1) := dk_172 (dk_at dksX34_reasonFor_2 21 rfl rfl)
theorem dX34_reasonFor_67 : decode cX34_reasonFor 67 = .ok (.aload_n 0, 1) := dk_42 (dk_at dksX34_reasonFor_2 22 rfl rfl)
theorem dX34_reasonFor_68 : decode cX34_reasonFor 68 = .ok (.getfield 25, 3) := dk_180 0 25 (dk_at dksX34_reasonFor_3 0 rfl rfl)
theorem dX34_reasonFor_71 : decode cX34_reasonFor 71 = .ok (.iload 4, 2) := dk_21 4 (dk_at dksX34_reasonFor_3 3 rfl rfl)
theorem dX34_reasonFor_73 : decode cX34_reasonFor 73 = .ok (.aaload, 1) := dk_50 (dk_at dksX34_reasonFor_3 5 rfl rfl)
theorem dX34_reasonFor_74 : decode cX34_reasonFor 74 = .ok (.iload 5, 2) := dk_21 5 (dk_at dksX34_reasonFor_3 6 rfl rfl)
theorem dX34_reasonFor_76 : decode cX34_reasonFor 76 = .ok (.invokevirtual 123, 3) := dk_182 0 123 (dk_at dksX34_reasonFor_3 8 rfl rfl)
theorem dX34_reasonFor_79 : decode cX34_reasonFor 79 = .ok (.ifCond .ne 5, 3) := dk_154 0 5 (dk_at dksX34_reasonFor_3 11 rfl rfl)
theorem dX34_reasonFor_82 : decode cX34_reasonFor 82 = .ok (.iconst 5, 1) := dk_8 (dk_at dksX34_reasonFor_3 14 rfl rfl)
theorem dX34_reasonFor_83 : decode cX34_reasonFor 83 = .ok (.ireturn, 1) := dk_172 (dk_at dksX34_reasonFor_3 15 rfl rfl)
theorem dX34_reasonFor_84 : decode cX34_reasonFor 84 = .ok (.iconst 0, 1) := dk_3 (dk_at dksX34_reasonFor_3 16 rfl rfl)
theorem dX34_reasonFor_85 : decode cX34_reasonFor 85 = .ok (.lload_n 2, 1) := dk_32 (dk_at dksX34_reasonFor_3 17 rfl rfl)
theorem dX34_reasonFor_86 : decode cX34_reasonFor 86 = .ok (.invokestatic 92, 3) := dk_184 0 92 (dk_at dksX34_reasonFor_3 18 rfl rfl)
theorem dX34_reasonFor_89 : decode cX34_reasonFor 89 = .ok (.ifCond .ne 6, 3) := dk_154 0 6 (dk_at dksX34_reasonFor_3 21 rfl rfl)
theorem dX34_reasonFor_92 : decode cX34_reasonFor 92 = .ok (.bipush 6, 2) := dk_16 6 (dk_at dksX34_reasonFor_4 0 rfl rfl)
theorem dX34_reasonFor_94 : decode cX34_reasonFor 94 = .ok (.ireturn, 1) := dk_172 (dk_at dksX34_reasonFor_4 2 rfl rfl)
theorem dX34_reasonFor_95 : decode cX34_reasonFor 95 = .ok (.aload 6, 2) := dk_25 6 (dk_at dksX34_reasonFor_4 3 rfl rfl)
theorem dX34_reasonFor_97 : decode cX34_reasonFor 97 = .ok (.getfield 126, 3) := dk_180 0 126 (dk_at dksX34_reasonFor_4 5 rfl rfl)
theorem dX34_reasonFor_100 : decode cX34_reasonFor 100 = .ok (.getfield 129, 3) := dk_180 0 129 (dk_at dksX34_reasonFor_4 8 rfl rfl)
theorem dX34_reasonFor_103 : decode cX34_reasonFor 103 = .ok (.lload_n 2, 1) := dk_32 (dk_at dksX34_reasonFor_4 11 rfl rfl)
theorem dX34_reasonFor_104 : decode cX34_reasonFor 104 = .ok (.invokestatic 134, 3) := dk_184 0 134 (dk_at dksX34_reasonFor_4 12 rfl rfl)
theorem dX34_reasonFor_107 : decode cX34_reasonFor 107 = .ok (.invokevirtual 140, 3) := dk_182 0 140 (dk_at dksX34_reasonFor_4 15 rfl rfl)
theorem dX34_reasonFor_110 : decode cX34_reasonFor 110 = .ok (.ifCond .eq 8, 3) := dk_153 0 8 (dk_at dksX34_reasonFor_4 18 rfl rfl)
theorem dX34_reasonFor_113 : decode cX34_reasonFor 113 = .ok (.bipush 7, 2) := dk_16 7 (dk_at dksX34_reasonFor_4 21 rfl rfl)
theorem dX34_reasonFor_115 : decode cX34_reasonFor 115 = .ok (.goto 4, 3) := dk_167 0 4 (dk_at dksX34_reasonFor_5 0 rfl rfl)
theorem dX34_reasonFor_118 : decode cX34_reasonFor 118 = .ok (.iconst 0, 1) := dk_3 (dk_at dksX34_reasonFor_5 3 rfl rfl)
theorem dX34_reasonFor_119 : decode cX34_reasonFor 119 = .ok (.ireturn, 1) := dk_172 (dk_at dksX34_reasonFor_5 4 rfl rfl)
abbrev cX34_pay : ByteArray := prog_9_method_15_code
def yX34_pay : MethodName := ⟨RX34, "pay", "(LWasteHouse$DepositCodes$Machine;JII)V"⟩
def dkwX34_pay_5 : List UInt8 := [47, 20, 0, 195, 97, 80, 177]
abbrev dktX34_pay_5 : List UInt8 := dkwX34_pay_5 ++ []
def dkwX34_pay_4 : List UInt8 := [182, 0, 173, 87, 25, 6, 43, 182, 0, 192, 92, 47, 20, 0, 195, 101, 80, 25, 6, 32, 184, 0, 197, 92]
abbrev dktX34_pay_4 : List UInt8 := dkwX34_pay_4 ++ dktX34_pay_5
def dkwX34_pay_3 : List UInt8 := [58, 6, 25, 6, 199, 0, 23, 6, 188, 11, 58, 6, 42, 180, 0, 46, 21, 5, 184, 0, 170, 25, 6]
abbrev dktX34_pay_3 : List UInt8 := dkwX34_pay_3 ++ dktX34_pay_4
def dkwX34_pay_2 : List UInt8 := [180, 0, 145, 4, 96, 181, 0, 145, 42, 180, 0, 46, 21, 5, 184, 0, 170, 182, 0, 162, 192, 0, 191]
abbrev dktX34_pay_2 : List UInt8 := dkwX34_pay_2 ++ dktX34_pay_3
def dkwX34_pay_1 : List UInt8 := [180, 0, 184, 21, 4, 92, 46, 4, 96, 79, 43, 89, 180, 0, 188, 4, 96, 181, 0, 188, 42, 89]
abbrev dktX34_pay_1 : List UInt8 := dkwX34_pay_1 ++ dktX34_pay_2
def dkwX34_pay_0 : List UInt8 := [43, 180, 0, 126, 180, 0, 129, 32, 184, 0, 134, 43, 180, 0, 181, 184, 0, 170, 182, 0, 173, 87, 43]
abbrev dktX34_pay_0 : List UInt8 := dkwX34_pay_0 ++ dktX34_pay_1
theorem dksX34_pay_0 : cX34_pay.data.toList.drop 0 = dktX34_pay_0 := by decide +kernel
theorem dksX34_pay_1 : cX34_pay.data.toList.drop 23 = dktX34_pay_1 := dk_seg dksX34_pay_0 23 rfl rfl
theorem dksX34_pay_2 : cX34_pay.data.toList.drop 45 = dktX34_pay_2 := dk_seg dksX34_pay_1 22 rfl rfl
theorem dksX34_pay_3 : cX34_pay.data.toList.drop 68 = dktX34_pay_3 := dk_seg dksX34_pay_2 23 rfl rfl
theorem dksX34_pay_4 : cX34_pay.data.toList.drop 91 = dktX34_pay_4 := dk_seg dksX34_pay_3 23 rfl rfl
theorem dksX34_pay_5 : cX34_pay.data.toList.drop 115 = dktX34_pay_5 := dk_seg dksX34_pay_4 24 rfl rfl
theorem dX34_pay_0 : decode cX34_pay 0 = .ok (.aload_n 1, 1) := dk_43 (dk_at dksX34_pay_0 0 rfl rfl)
theorem dX34_pay_1 : decode cX34_pay 1 = .ok (.getfield 126, 3) := dk_180 0 126 (dk_at dksX34_pay_0 1 rfl rfl)
theorem dX34_pay_4 : decode cX34_pay 4 = .ok (.getfield 129, 3) := dk_180 0 129 (dk_at dksX34_pay_0 4 rfl rfl)
theorem dX34_pay_7 : decode cX34_pay 7 = .ok (.lload_n 2, 1) := dk_32 (dk_at dksX34_pay_0 7 rfl rfl)
theorem dX34_pay_8 : decode cX34_pay 8 = .ok (.invokestatic 134, 3) := dk_184 0 134 (dk_at dksX34_pay_0 8 rfl rfl)
theorem dX34_pay_11 : decode cX34_pay 11 = .ok (.aload_n 1, 1) := dk_43 (dk_at dksX34_pay_0 11 rfl rfl)
theorem dX34_pay_12 : decode cX34_pay 12 = .ok (.getfield 181, 3) := dk_180 0 181 (dk_at dksX34_pay_0 12 rfl rfl)
theorem dX34_pay_15 : decode cX34_pay 15 = .ok (.invokestatic 170, 3) := dk_184 0 170 (dk_at dksX34_pay_0 15 rfl rfl)
theorem dX34_pay_18 : decode cX34_pay 18 = .ok (.invokevirtual 173, 3) := dk_182 0 173 (dk_at dksX34_pay_0 18 rfl rfl)
theorem dX34_pay_21 : decode cX34_pay 21 = .ok (.pop, 1) := dk_87 (dk_at dksX34_pay_0 21 rfl rfl)
theorem dX34_pay_22 : decode cX34_pay 22 = .ok (.aload_n 1, 1) := dk_43 (dk_at dksX34_pay_0 22 rfl rfl)
theorem dX34_pay_23 : decode cX34_pay 23 = .ok (.getfield 184, 3) := dk_180 0 184 (dk_at dksX34_pay_1 0 rfl rfl)
theorem dX34_pay_26 : decode cX34_pay 26 = .ok (.iload 4, 2) := dk_21 4 (dk_at dksX34_pay_1 3 rfl rfl)
theorem dX34_pay_28 : decode cX34_pay 28 = .ok (.dup2, 1) := dk_92 (dk_at dksX34_pay_1 5 rfl rfl)
theorem dX34_pay_29 : decode cX34_pay 29 = .ok (.iaload, 1) := dk_46 (dk_at dksX34_pay_1 6 rfl rfl)
theorem dX34_pay_30 : decode cX34_pay 30 = .ok (.iconst 1, 1) := dk_4 (dk_at dksX34_pay_1 7 rfl rfl)
theorem dX34_pay_31 : decode cX34_pay 31 = .ok (.iadd, 1) := dk_96 (dk_at dksX34_pay_1 8 rfl rfl)
theorem dX34_pay_32 : decode cX34_pay 32 = .ok (.iastore, 1) := dk_79 (dk_at dksX34_pay_1 9 rfl rfl)
theorem dX34_pay_33 : decode cX34_pay 33 = .ok (.aload_n 1, 1) := dk_43 (dk_at dksX34_pay_1 10 rfl rfl)
theorem dX34_pay_34 : decode cX34_pay 34 = .ok (.dup, 1) := dk_89 (dk_at dksX34_pay_1 11 rfl rfl)
theorem dX34_pay_35 : decode cX34_pay 35 = .ok (.getfield 188, 3) := dk_180 0 188 (dk_at dksX34_pay_1 12 rfl rfl)
theorem dX34_pay_38 : decode cX34_pay 38 = .ok (.iconst 1, 1) := dk_4 (dk_at dksX34_pay_1 15 rfl rfl)
theorem dX34_pay_39 : decode cX34_pay 39 = .ok (.iadd, 1) := dk_96 (dk_at dksX34_pay_1 16 rfl rfl)
theorem dX34_pay_40 : decode cX34_pay 40 = .ok (.putfield 188, 3) := dk_181 0 188 (dk_at dksX34_pay_1 17 rfl rfl)
theorem dX34_pay_43 : decode cX34_pay 43 = .ok (.aload_n 0, 1) := dk_42 (dk_at dksX34_pay_1 20 rfl rfl)
theorem dX34_pay_44 : decode cX34_pay 44 = .ok (.dup, 1) := dk_89 (dk_at dksX34_pay_1 21 rfl rfl)
theorem dX34_pay_45 : decode cX34_pay 45 = .ok (.getfield 145, 3) := dk_180 0 145 (dk_at dksX34_pay_2 0 rfl rfl)
theorem dX34_pay_48 : decode cX34_pay 48 = .ok (.iconst 1, 1) := dk_4 (dk_at dksX34_pay_2 3 rfl rfl)
theorem dX34_pay_49 : decode cX34_pay 49 = .ok (.iadd, 1) := dk_96 (dk_at dksX34_pay_2 4 rfl rfl)
theorem dX34_pay_50 : decode cX34_pay 50 = .ok (.putfield 145, 3) := dk_181 0 145 (dk_at dksX34_pay_2 5 rfl rfl)
theorem dX34_pay_53 : decode cX34_pay 53 = .ok (.aload_n 0, 1) := dk_42 (dk_at dksX34_pay_2 8 rfl rfl)
theorem dX34_pay_54 : decode cX34_pay 54 = .ok (.getfield 46, 3) := dk_180 0 46 (dk_at dksX34_pay_2 9 rfl rfl)
theorem dX34_pay_57 : decode cX34_pay 57 = .ok (.iload 5, 2) := dk_21 5 (dk_at dksX34_pay_2 12 rfl rfl)
theorem dX34_pay_59 : decode cX34_pay 59 = .ok (.invokestatic 170, 3) := dk_184 0 170 (dk_at dksX34_pay_2 14 rfl rfl)
theorem dX34_pay_62 : decode cX34_pay 62 = .ok (.invokevirtual 162, 3) := dk_182 0 162 (dk_at dksX34_pay_2 17 rfl rfl)
theorem dX34_pay_65 : decode cX34_pay 65 = .ok (.checkcast 191, 3) := dk_192 0 191 (dk_at dksX34_pay_2 20 rfl rfl)
theorem dX34_pay_68 : decode cX34_pay 68 = .ok (.astore 6, 2) := dk_58 6 (dk_at dksX34_pay_3 0 rfl rfl)
theorem dX34_pay_70 : decode cX34_pay 70 = .ok (.aload 6, 2) := dk_25 6 (dk_at dksX34_pay_3 2 rfl rfl)
theorem dX34_pay_72 : decode cX34_pay 72 = .ok (.ifnonnull 23, 3) := dk_199 0 23 (dk_at dksX34_pay_3 4 rfl rfl)
theorem dX34_pay_75 : decode cX34_pay 75 = .ok (.iconst 3, 1) := dk_6 (dk_at dksX34_pay_3 7 rfl rfl)
theorem dX34_pay_76 : decode cX34_pay 76 = .ok (.newarray .long, 2) := dk_188_11 (dk_at dksX34_pay_3 8 rfl rfl)
theorem dX34_pay_78 : decode cX34_pay 78 = .ok (.astore 6, 2) := dk_58 6 (dk_at dksX34_pay_3 10 rfl rfl)
theorem dX34_pay_80 : decode cX34_pay 80 = .ok (.aload_n 0, 1) := dk_42 (dk_at dksX34_pay_3 12 rfl rfl)
theorem dX34_pay_81 : decode cX34_pay 81 = .ok (.getfield 46, 3) := dk_180 0 46 (dk_at dksX34_pay_3 13 rfl rfl)
theorem dX34_pay_84 : decode cX34_pay 84 = .ok (.iload 5, 2) := dk_21 5 (dk_at dksX34_pay_3 16 rfl rfl)
theorem dX34_pay_86 : decode cX34_pay 86 = .ok (.invokestatic 170, 3) := dk_184 0 170 (dk_at dksX34_pay_3 18 rfl rfl)
theorem dX34_pay_89 : decode cX34_pay 89 = .ok (.aload 6, 2) := dk_25 6 (dk_at dksX34_pay_3 21 rfl rfl)
theorem dX34_pay_91 : decode cX34_pay 91 = .ok (.invokevirtual 173, 3) := dk_182 0 173 (dk_at dksX34_pay_4 0 rfl rfl)
theorem dX34_pay_94 : decode cX34_pay 94 = .ok (.pop, 1) := dk_87 (dk_at dksX34_pay_4 3 rfl rfl)
theorem dX34_pay_95 : decode cX34_pay 95 = .ok (.aload 6, 2) := dk_25 6 (dk_at dksX34_pay_4 4 rfl rfl)
theorem dX34_pay_97 : decode cX34_pay 97 = .ok (.aload_n 1, 1) := dk_43 (dk_at dksX34_pay_4 6 rfl rfl)
theorem dX34_pay_98 : decode cX34_pay 98 = .ok (.invokevirtual 192, 3) := dk_182 0 192 (dk_at dksX34_pay_4 7 rfl rfl)
theorem dX34_pay_101 : decode cX34_pay 101 = .ok (.dup2, 1) := dk_92 (dk_at dksX34_pay_4 10 rfl rfl)
theorem dX34_pay_102 : decode cX34_pay 102 = .ok (.laload, 1) := dk_47 (dk_at dksX34_pay_4 11 rfl rfl)
theorem dX34_pay_103 : decode cX34_pay 103 = .ok (.ldc2_w 195, 3) := dk_20 0 195 (dk_at dksX34_pay_4 12 rfl rfl)
theorem dX34_pay_106 : decode cX34_pay 106 = .ok (.lsub, 1) := dk_101 (dk_at dksX34_pay_4 15 rfl rfl)
theorem dX34_pay_107 : decode cX34_pay 107 = .ok (.lastore, 1) := dk_80 (dk_at dksX34_pay_4 16 rfl rfl)
theorem dX34_pay_108 : decode cX34_pay 108 = .ok (.aload 6, 2) := dk_25 6 (dk_at dksX34_pay_4 17 rfl rfl)
theorem dX34_pay_110 : decode cX34_pay 110 = .ok (.lload_n 2, 1) := dk_32 (dk_at dksX34_pay_4 19 rfl rfl)
theorem dX34_pay_111 : decode cX34_pay 111 = .ok (.invokestatic 197, 3) := dk_184 0 197 (dk_at dksX34_pay_4 20 rfl rfl)
theorem dX34_pay_114 : decode cX34_pay 114 = .ok (.dup2, 1) := dk_92 (dk_at dksX34_pay_4 23 rfl rfl)
theorem dX34_pay_115 : decode cX34_pay 115 = .ok (.laload, 1) := dk_47 (dk_at dksX34_pay_5 0 rfl rfl)
theorem dX34_pay_116 : decode cX34_pay 116 = .ok (.ldc2_w 195, 3) := dk_20 0 195 (dk_at dksX34_pay_5 1 rfl rfl)
theorem dX34_pay_119 : decode cX34_pay 119 = .ok (.ladd, 1) := dk_97 (dk_at dksX34_pay_5 4 rfl rfl)
theorem dX34_pay_120 : decode cX34_pay 120 = .ok (.lastore, 1) := dk_80 (dk_at dksX34_pay_5 5 rfl rfl)
theorem dX34_pay_121 : decode cX34_pay 121 = .ok (.return_, 1) := dk_177 (dk_at dksX34_pay_5 6 rfl rfl)
abbrev cX34_reason : ByteArray := prog_9_method_16_code
def yX34_reason : MethodName := ⟨RX34, "reason", "()I"⟩
theorem dX34_reason_0 : decode cX34_reason 0 = .ok (.aload_n 0, 1) := by decide +kernel
theorem dX34_reason_1 : decode cX34_reason 1 = .ok (.getfield 153, 3) := by decide +kernel
theorem dX34_reason_4 : decode cX34_reason 4 = .ok (.ireturn, 1) := by decide +kernel
abbrev cX34_count : ByteArray := prog_9_method_17_code
def yX34_count : MethodName := ⟨RX34, "count", "(II)J"⟩
def dkwX34_count_1 : List UInt8 := [42, 180, 0, 19, 27, 182, 0, 112, 192, 0, 96, 180, 0, 184, 28, 46, 133, 173]
abbrev dktX34_count_1 : List UInt8 := dkwX34_count_1 ++ []
def dkwX34_count_0 : List UInt8 := [42, 27, 182, 0, 108, 153, 0, 13, 28, 155, 0, 9, 28, 16, 8, 161, 0, 9, 20, 0, 200, 167, 0, 20]
abbrev dktX34_count_0 : List UInt8 := dkwX34_count_0 ++ dktX34_count_1
theorem dksX34_count_0 : cX34_count.data.toList.drop 0 = dktX34_count_0 := by decide +kernel
theorem dksX34_count_1 : cX34_count.data.toList.drop 24 = dktX34_count_1 := dk_seg dksX34_count_0 24 rfl rfl
theorem dX34_count_0 : decode cX34_count 0 = .ok (.aload_n 0, 1) := dk_42 (dk_at dksX34_count_0 0 rfl rfl)
theorem dX34_count_1 : decode cX34_count 1 = .ok (.iload_n 1, 1) := dk_27 (dk_at dksX34_count_0 1 rfl rfl)
theorem dX34_count_2 : decode cX34_count 2 = .ok (.invokevirtual 108, 3) := dk_182 0 108 (dk_at dksX34_count_0 2 rfl rfl)
theorem dX34_count_5 : decode cX34_count 5 = .ok (.ifCond .eq 13, 3) := dk_153 0 13 (dk_at dksX34_count_0 5 rfl rfl)
theorem dX34_count_8 : decode cX34_count 8 = .ok (.iload_n 2, 1) := dk_28 (dk_at dksX34_count_0 8 rfl rfl)
theorem dX34_count_9 : decode cX34_count 9 = .ok (.ifCond .lt 9, 3) := dk_155 0 9 (dk_at dksX34_count_0 9 rfl rfl)
theorem dX34_count_12 : decode cX34_count 12 = .ok (.iload_n 2, 1) := dk_28 (dk_at dksX34_count_0 12 rfl rfl)
theorem dX34_count_13 : decode cX34_count 13 = .ok (.bipush 8, 2) := dk_16 8 (dk_at dksX34_count_0 13 rfl rfl)
theorem dX34_count_15 : decode cX34_count 15 = .ok (.if_icmp .lt 9, 3) := dk_161 0 9 (dk_at dksX34_count_0 15 rfl rfl)
theorem dX34_count_18 : decode cX34_count 18 = .ok (.ldc2_w 200, 3) := dk_20 0 200 (dk_at dksX34_count_0 18 rfl rfl)
theorem dX34_count_21 : decode cX34_count 21 = .ok (.goto 20, 3) := dk_167 0 20 (dk_at dksX34_count_0 21 rfl rfl)
theorem dX34_count_24 : decode cX34_count 24 = .ok (.aload_n 0, 1) := dk_42 (dk_at dksX34_count_1 0 rfl rfl)
theorem dX34_count_25 : decode cX34_count 25 = .ok (.getfield 19, 3) := dk_180 0 19 (dk_at dksX34_count_1 1 rfl rfl)
theorem dX34_count_28 : decode cX34_count 28 = .ok (.iload_n 1, 1) := dk_27 (dk_at dksX34_count_1 4 rfl rfl)
theorem dX34_count_29 : decode cX34_count 29 = .ok (.invokevirtual 112, 3) := dk_182 0 112 (dk_at dksX34_count_1 5 rfl rfl)
theorem dX34_count_32 : decode cX34_count 32 = .ok (.checkcast 96, 3) := dk_192 0 96 (dk_at dksX34_count_1 8 rfl rfl)
theorem dX34_count_35 : decode cX34_count 35 = .ok (.getfield 184, 3) := dk_180 0 184 (dk_at dksX34_count_1 11 rfl rfl)
theorem dX34_count_38 : decode cX34_count 38 = .ok (.iload_n 2, 1) := dk_28 (dk_at dksX34_count_1 14 rfl rfl)
theorem dX34_count_39 : decode cX34_count 39 = .ok (.iaload, 1) := dk_46 (dk_at dksX34_count_1 15 rfl rfl)
theorem dX34_count_40 : decode cX34_count 40 = .ok (.i2l, 1) := dk_133 (dk_at dksX34_count_1 16 rfl rfl)
theorem dX34_count_41 : decode cX34_count 41 = .ok (.lreturn, 1) := dk_173 (dk_at dksX34_count_1 17 rfl rfl)
abbrev cX34_join : ByteArray := prog_9_method_18_code
def yX34_join : MethodName := ⟨RX34, "join", "(II)I"⟩
def dkwX34_join_13 : List UInt8 := [182, 0, 112, 192, 0, 96, 45, 181, 0, 126, 167, 255, 215, 21, 5, 172]
abbrev dktX34_join_13 : List UInt8 := dkwX34_join_13 ++ []
def dkwX34_join_12 : List UInt8 := [153, 0, 37, 25, 7, 185, 0, 218, 1, 0, 192, 0, 165, 182, 0, 167, 54, 8, 42, 180, 0, 19, 21, 8]
abbrev dktX34_join_12 : List UInt8 := dkwX34_join_12 ++ dktX34_join_13
def dkwX34_join_11 : List UInt8 := [180, 0, 242, 182, 0, 244, 87, 25, 4, 180, 0, 242, 182, 0, 248, 58, 7, 25, 7, 185, 0, 212, 1, 0]
abbrev dktX34_join_11 : List UInt8 := dkwX34_join_11 ++ dktX34_join_12
def dkwX34_join_10 : List UInt8 := [25, 8, 185, 0, 233, 1, 0, 192, 0, 165, 182, 0, 173, 87, 167, 255, 206, 45, 180, 0, 242, 25, 4]
abbrev dktX34_join_10 : List UInt8 := dkwX34_join_10 ++ dktX34_join_11
def dkwX34_join_9 : List UInt8 := [185, 0, 218, 1, 0, 192, 0, 222, 58, 8, 45, 180, 0, 129, 25, 8, 185, 0, 224, 1, 0, 192, 0, 135]
abbrev dktX34_join_9 : List UInt8 := dkwX34_join_9 ++ dktX34_join_10
def dkwX34_join_8 : List UInt8 := [182, 0, 202, 185, 0, 206, 1, 0, 58, 7, 25, 7, 185, 0, 212, 1, 0, 153, 0, 46, 25, 7]
abbrev dktX34_join_8 : List UInt8 := dkwX34_join_8 ++ dktX34_join_9
def dkwX34_join_7 : List UInt8 := [182, 0, 101, 87, 25, 6, 185, 0, 239, 1, 0, 132, 5, 1, 167, 255, 154, 25, 4, 180, 0, 129]
abbrev dktX34_join_7 : List UInt8 := dkwX34_join_7 ++ dktX34_join_8
def dkwX34_join_6 : List UInt8 := [182, 0, 229, 25, 8, 182, 0, 167, 25, 7, 185, 0, 233, 1, 0, 192, 0, 165, 182, 0, 167, 183, 0, 236]
abbrev dktX34_join_6 : List UInt8 := dkwX34_join_6 ++ dktX34_join_7
def dkwX34_join_5 : List UInt8 := [25, 8, 198, 0, 59, 42, 180, 0, 29, 187, 0, 227, 89, 25, 7, 185, 0, 224, 1, 0, 192, 0, 135]
abbrev dktX34_join_5 : List UInt8 := dkwX34_join_5 ++ dktX34_join_6
def dkwX34_join_4 : List UInt8 := [192, 0, 222, 58, 7, 45, 180, 0, 129, 25, 7, 185, 0, 224, 1, 0, 182, 0, 162, 192, 0, 165, 58, 8]
abbrev dktX34_join_4 : List UInt8 := dkwX34_join_4 ++ dktX34_join_5
def dkwX34_join_3 : List UInt8 := [185, 0, 206, 1, 0, 58, 6, 25, 6, 185, 0, 212, 1, 0, 153, 0, 98, 25, 6, 185, 0, 218, 1, 0]
abbrev dktX34_join_3 : List UInt8 := dkwX34_join_3 ++ dktX34_join_4
def dkwX34_join_2 : List UInt8 := [58, 4, 45, 25, 4, 166, 0, 5, 3, 172, 3, 54, 5, 25, 4, 180, 0, 129, 182, 0, 202]
abbrev dktX34_join_2 : List UInt8 := dkwX34_join_2 ++ dktX34_join_3
def dkwX34_join_1 : List UInt8 := [182, 0, 112, 192, 0, 96, 180, 0, 126, 78, 42, 180, 0, 19, 28, 182, 0, 112, 192, 0, 96, 180, 0, 126]
abbrev dktX34_join_1 : List UInt8 := dkwX34_join_1 ++ dktX34_join_2
def dkwX34_join_0 : List UInt8 := [42, 27, 182, 0, 108, 153, 0, 11, 42, 28, 182, 0, 108, 154, 0, 5, 2, 172, 42, 180, 0, 19, 27]
abbrev dktX34_join_0 : List UInt8 := dkwX34_join_0 ++ dktX34_join_1
theorem dksX34_join_0 : cX34_join.data.toList.drop 0 = dktX34_join_0 := by decide +kernel
theorem dksX34_join_1 : cX34_join.data.toList.drop 23 = dktX34_join_1 := dk_seg dksX34_join_0 23 rfl rfl
theorem dksX34_join_2 : cX34_join.data.toList.drop 47 = dktX34_join_2 := dk_seg dksX34_join_1 24 rfl rfl
theorem dksX34_join_3 : cX34_join.data.toList.drop 68 = dktX34_join_3 := dk_seg dksX34_join_2 21 rfl rfl
theorem dksX34_join_4 : cX34_join.data.toList.drop 92 = dktX34_join_4 := dk_seg dksX34_join_3 24 rfl rfl
theorem dksX34_join_5 : cX34_join.data.toList.drop 116 = dktX34_join_5 := dk_seg dksX34_join_4 24 rfl rfl
theorem dksX34_join_6 : cX34_join.data.toList.drop 139 = dktX34_join_6 := dk_seg dksX34_join_5 23 rfl rfl
theorem dksX34_join_7 : cX34_join.data.toList.drop 163 = dktX34_join_7 := dk_seg dksX34_join_6 24 rfl rfl
theorem dksX34_join_8 : cX34_join.data.toList.drop 185 = dktX34_join_8 := dk_seg dksX34_join_7 22 rfl rfl
theorem dksX34_join_9 : cX34_join.data.toList.drop 207 = dktX34_join_9 := dk_seg dksX34_join_8 22 rfl rfl
theorem dksX34_join_10 : cX34_join.data.toList.drop 231 = dktX34_join_10 := dk_seg dksX34_join_9 24 rfl rfl
theorem dksX34_join_11 : cX34_join.data.toList.drop 254 = dktX34_join_11 := dk_seg dksX34_join_10 23 rfl rfl
theorem dksX34_join_12 : cX34_join.data.toList.drop 278 = dktX34_join_12 := dk_seg dksX34_join_11 24 rfl rfl
theorem dksX34_join_13 : cX34_join.data.toList.drop 302 = dktX34_join_13 := dk_seg dksX34_join_12 24 rfl rfl
theorem dX34_join_0 : decode cX34_join 0 = .ok (.aload_n 0, 1) := dk_42 (dk_at dksX34_join_0 0 rfl rfl)
theorem dX34_join_1 : decode cX34_join 1 = .ok (.iload_n 1, 1) := dk_27 (dk_at dksX34_join_0 1 rfl rfl)
theorem dX34_join_2 : decode cX34_join 2 = .ok (.invokevirtual 108, 3) := dk_182 0 108 (dk_at dksX34_join_0 2 rfl rfl)
theorem dX34_join_5 : decode cX34_join 5 = .ok (.ifCond .eq 11, 3) := dk_153 0 11 (dk_at dksX34_join_0 5 rfl rfl)
theorem dX34_join_8 : decode cX34_join 8 = .ok (.aload_n 0, 1) := dk_42 (dk_at dksX34_join_0 8 rfl rfl)
theorem dX34_join_9 : decode cX34_join 9 = .ok (.iload_n 2, 1) := dk_28 (dk_at dksX34_join_0 9 rfl rfl)
theorem dX34_join_10 : decode cX34_join 10 = .ok (.invokevirtual 108, 3) := dk_182 0 108 (dk_at dksX34_join_0 10 rfl rfl)
theorem dX34_join_13 : decode cX34_join 13 = .ok (.ifCond .ne 5, 3) := dk_154 0 5 (dk_at dksX34_join_0 13 rfl rfl)
theorem dX34_join_16 : decode cX34_join 16 = .ok (.iconst (-1), 1) := dk_2 (dk_at dksX34_join_0 16 rfl rfl)
theorem dX34_join_17 : decode cX34_join 17 = .ok (.ireturn, 1) := dk_172 (dk_at dksX34_join_0 17 rfl rfl)
theorem dX34_join_18 : decode cX34_join 18 = .ok (.aload_n 0, 1) := dk_42 (dk_at dksX34_join_0 18 rfl rfl)
theorem dX34_join_19 : decode cX34_join 19 = .ok (.getfield 19, 3) := dk_180 0 19 (dk_at dksX34_join_0 19 rfl rfl)
theorem dX34_join_22 : decode cX34_join 22 = .ok (.iload_n 1, 1) := dk_27 (dk_at dksX34_join_0 22 rfl rfl)
theorem dX34_join_23 : decode cX34_join 23 = .ok (.invokevirtual 112, 3) := dk_182 0 112 (dk_at dksX34_join_1 0 rfl rfl)
theorem dX34_join_26 : decode cX34_join 26 = .ok (.checkcast 96, 3) := dk_192 0 96 (dk_at dksX34_join_1 3 rfl rfl)
theorem dX34_join_29 : decode cX34_join 29 = .ok (.getfield 126, 3) := dk_180 0 126 (dk_at dksX34_join_1 6 rfl rfl)
theorem dX34_join_32 : decode cX34_join 32 = .ok (.astore_n 3, 1) := dk_78 (dk_at dksX34_join_1 9 rfl rfl)
theorem dX34_join_33 : decode cX34_join 33 = .ok (.aload_n 0, 1) := dk_42 (dk_at dksX34_join_1 10 rfl rfl)
theorem dX34_join_34 : decode cX34_join 34 = .ok (.getfield 19, 3) := dk_180 0 19 (dk_at dksX34_join_1 11 rfl rfl)
theorem dX34_join_37 : decode cX34_join 37 = .ok (.iload_n 2, 1) := dk_28 (dk_at dksX34_join_1 14 rfl rfl)
theorem dX34_join_38 : decode cX34_join 38 = .ok (.invokevirtual 112, 3) := dk_182 0 112 (dk_at dksX34_join_1 15 rfl rfl)
theorem dX34_join_41 : decode cX34_join 41 = .ok (.checkcast 96, 3) := dk_192 0 96 (dk_at dksX34_join_1 18 rfl rfl)
theorem dX34_join_44 : decode cX34_join 44 = .ok (.getfield 126, 3) := dk_180 0 126 (dk_at dksX34_join_1 21 rfl rfl)
theorem dX34_join_47 : decode cX34_join 47 = .ok (.astore 4, 2) := dk_58 4 (dk_at dksX34_join_2 0 rfl rfl)
theorem dX34_join_49 : decode cX34_join 49 = .ok (.aload_n 3, 1) := dk_45 (dk_at dksX34_join_2 2 rfl rfl)
theorem dX34_join_50 : decode cX34_join 50 = .ok (.aload 4, 2) := dk_25 4 (dk_at dksX34_join_2 3 rfl rfl)
theorem dX34_join_52 : decode cX34_join 52 = .ok (.if_acmp .ne 5, 3) := dk_166 0 5 (dk_at dksX34_join_2 5 rfl rfl)
theorem dX34_join_55 : decode cX34_join 55 = .ok (.iconst 0, 1) := dk_3 (dk_at dksX34_join_2 8 rfl rfl)
theorem dX34_join_56 : decode cX34_join 56 = .ok (.ireturn, 1) := dk_172 (dk_at dksX34_join_2 9 rfl rfl)
theorem dX34_join_57 : decode cX34_join 57 = .ok (.iconst 0, 1) := dk_3 (dk_at dksX34_join_2 10 rfl rfl)
theorem dX34_join_58 : decode cX34_join 58 = .ok (.istore 5, 2) := dk_54 5 (dk_at dksX34_join_2 11 rfl rfl)
theorem dX34_join_60 : decode cX34_join 60 = .ok (.aload 4, 2) := dk_25 4 (dk_at dksX34_join_2 13 rfl rfl)
theorem dX34_join_62 : decode cX34_join 62 = .ok (.getfield 129, 3) := dk_180 0 129 (dk_at dksX34_join_2 15 rfl rfl)
theorem dX34_join_65 : decode cX34_join 65 = .ok (.invokevirtual 202, 3) := dk_182 0 202 (dk_at dksX34_join_2 18 rfl rfl)
theorem dX34_join_68 : decode cX34_join 68 = .ok (.invokeinterface 206 1, 5) := by decide +kernel
theorem dX34_join_73 : decode cX34_join 73 = .ok (.astore 6, 2) := dk_58 6 (dk_at dksX34_join_3 5 rfl rfl)
theorem dX34_join_75 : decode cX34_join 75 = .ok (.aload 6, 2) := dk_25 6 (dk_at dksX34_join_3 7 rfl rfl)
theorem dX34_join_77 : decode cX34_join 77 = .ok (.invokeinterface 212 1, 5) := by decide +kernel
theorem dX34_join_82 : decode cX34_join 82 = .ok (.ifCond .eq 98, 3) := dk_153 0 98 (dk_at dksX34_join_3 14 rfl rfl)
theorem dX34_join_85 : decode cX34_join 85 = .ok (.aload 6, 2) := dk_25 6 (dk_at dksX34_join_3 17 rfl rfl)
theorem dX34_join_87 : decode cX34_join 87 = .ok (.invokeinterface 218 1, 5) := by decide +kernel
theorem dX34_join_92 : decode cX34_join 92 = .ok (.checkcast 222, 3) := dk_192 0 222 (dk_at dksX34_join_4 0 rfl rfl)
theorem dX34_join_95 : decode cX34_join 95 = .ok (.astore 7, 2) := dk_58 7 (dk_at dksX34_join_4 3 rfl rfl)
theorem dX34_join_97 : decode cX34_join 97 = .ok (.aload_n 3, 1) := dk_45 (dk_at dksX34_join_4 5 rfl rfl)
theorem dX34_join_98 : decode cX34_join 98 = .ok (.getfield 129, 3) := dk_180 0 129 (dk_at dksX34_join_4 6 rfl rfl)
theorem dX34_join_101 : decode cX34_join 101 = .ok (.aload 7, 2) := dk_25 7 (dk_at dksX34_join_4 9 rfl rfl)
theorem dX34_join_103 : decode cX34_join 103 = .ok (.invokeinterface 224 1, 5) := by decide +kernel
theorem dX34_join_108 : decode cX34_join 108 = .ok (.invokevirtual 162, 3) := dk_182 0 162 (dk_at dksX34_join_4 16 rfl rfl)
theorem dX34_join_111 : decode cX34_join 111 = .ok (.checkcast 165, 3) := dk_192 0 165 (dk_at dksX34_join_4 19 rfl rfl)
theorem dX34_join_114 : decode cX34_join 114 = .ok (.astore 8, 2) := dk_58 8 (dk_at dksX34_join_4 22 rfl rfl)
theorem dX34_join_116 : decode cX34_join 116 = .ok (.aload 8, 2) := dk_25 8 (dk_at dksX34_join_5 0 rfl rfl)
theorem dX34_join_118 : decode cX34_join 118 = .ok (.ifnull 59, 3) := dk_198 0 59 (dk_at dksX34_join_5 2 rfl rfl)
theorem dX34_join_121 : decode cX34_join 121 = .ok (.aload_n 0, 1) := dk_42 (dk_at dksX34_join_5 5 rfl rfl)
theorem dX34_join_122 : decode cX34_join 122 = .ok (.getfield 29, 3) := dk_180 0 29 (dk_at dksX34_join_5 6 rfl rfl)
theorem dX34_join_125 : decode cX34_join 125 = .ok (.new 227, 3) := dk_187 0 227 (dk_at dksX34_join_5 9 rfl rfl)
theorem dX34_join_128 : decode cX34_join 128 = .ok (.dup, 1) := dk_89 (dk_at dksX34_join_5 12 rfl rfl)
theorem dX34_join_129 : decode cX34_join 129 = .ok (.aload 7, 2) := dk_25 7 (dk_at dksX34_join_5 13 rfl rfl)
theorem dX34_join_131 : decode cX34_join 131 = .ok (.invokeinterface 224 1, 5) := by decide +kernel
theorem dX34_join_136 : decode cX34_join 136 = .ok (.checkcast 135, 3) := dk_192 0 135 (dk_at dksX34_join_5 20 rfl rfl)
theorem dX34_join_139 : decode cX34_join 139 = .ok (.invokevirtual 229, 3) := dk_182 0 229 (dk_at dksX34_join_6 0 rfl rfl)
theorem dX34_join_142 : decode cX34_join 142 = .ok (.aload 8, 2) := dk_25 8 (dk_at dksX34_join_6 3 rfl rfl)
theorem dX34_join_144 : decode cX34_join 144 = .ok (.invokevirtual 167, 3) := dk_182 0 167 (dk_at dksX34_join_6 5 rfl rfl)
theorem dX34_join_147 : decode cX34_join 147 = .ok (.aload 7, 2) := dk_25 7 (dk_at dksX34_join_6 8 rfl rfl)
theorem dX34_join_149 : decode cX34_join 149 = .ok (.invokeinterface 233 1, 5) := by decide +kernel
theorem dX34_join_154 : decode cX34_join 154 = .ok (.checkcast 165, 3) := dk_192 0 165 (dk_at dksX34_join_6 15 rfl rfl)
theorem dX34_join_157 : decode cX34_join 157 = .ok (.invokevirtual 167, 3) := dk_182 0 167 (dk_at dksX34_join_6 18 rfl rfl)
theorem dX34_join_160 : decode cX34_join 160 = .ok (.invokespecial 236, 3) := dk_183 0 236 (dk_at dksX34_join_6 21 rfl rfl)
theorem dX34_join_163 : decode cX34_join 163 = .ok (.invokevirtual 101, 3) := dk_182 0 101 (dk_at dksX34_join_7 0 rfl rfl)
theorem dX34_join_166 : decode cX34_join 166 = .ok (.pop, 1) := dk_87 (dk_at dksX34_join_7 3 rfl rfl)
theorem dX34_join_167 : decode cX34_join 167 = .ok (.aload 6, 2) := dk_25 6 (dk_at dksX34_join_7 4 rfl rfl)
theorem dX34_join_169 : decode cX34_join 169 = .ok (.invokeinterface 239 1, 5) := by decide +kernel
theorem dX34_join_174 : decode cX34_join 174 = .ok (.iinc 5 1, 3) := dk_132 5 1 (dk_at dksX34_join_7 11 rfl rfl)
theorem dX34_join_177 : decode cX34_join 177 = .ok (.goto (-102), 3) := dk_167 255 154 (dk_at dksX34_join_7 14 rfl rfl)
theorem dX34_join_180 : decode cX34_join 180 = .ok (.aload 4, 2) := dk_25 4 (dk_at dksX34_join_7 17 rfl rfl)
theorem dX34_join_182 : decode cX34_join 182 = .ok (.getfield 129, 3) := dk_180 0 129 (dk_at dksX34_join_7 19 rfl rfl)
theorem dX34_join_185 : decode cX34_join 185 = .ok (.invokevirtual 202, 3) := dk_182 0 202 (dk_at dksX34_join_8 0 rfl rfl)
theorem dX34_join_188 : decode cX34_join 188 = .ok (.invokeinterface 206 1, 5) := by decide +kernel
theorem dX34_join_193 : decode cX34_join 193 = .ok (.astore 7, 2) := dk_58 7 (dk_at dksX34_join_8 8 rfl rfl)
theorem dX34_join_195 : decode cX34_join 195 = .ok (.aload 7, 2) := dk_25 7 (dk_at dksX34_join_8 10 rfl rfl)
theorem dX34_join_197 : decode cX34_join 197 = .ok (.invokeinterface 212 1, 5) := by decide +kernel
theorem dX34_join_202 : decode cX34_join 202 = .ok (.ifCond .eq 46, 3) := dk_153 0 46 (dk_at dksX34_join_8 17 rfl rfl)
theorem dX34_join_205 : decode cX34_join 205 = .ok (.aload 7, 2) := dk_25 7 (dk_at dksX34_join_8 20 rfl rfl)
theorem dX34_join_207 : decode cX34_join 207 = .ok (.invokeinterface 218 1, 5) := by decide +kernel
theorem dX34_join_212 : decode cX34_join 212 = .ok (.checkcast 222, 3) := dk_192 0 222 (dk_at dksX34_join_9 5 rfl rfl)
theorem dX34_join_215 : decode cX34_join 215 = .ok (.astore 8, 2) := dk_58 8 (dk_at dksX34_join_9 8 rfl rfl)
theorem dX34_join_217 : decode cX34_join 217 = .ok (.aload_n 3, 1) := dk_45 (dk_at dksX34_join_9 10 rfl rfl)
theorem dX34_join_218 : decode cX34_join 218 = .ok (.getfield 129, 3) := dk_180 0 129 (dk_at dksX34_join_9 11 rfl rfl)
theorem dX34_join_221 : decode cX34_join 221 = .ok (.aload 8, 2) := dk_25 8 (dk_at dksX34_join_9 14 rfl rfl)
theorem dX34_join_223 : decode cX34_join 223 = .ok (.invokeinterface 224 1, 5) := by decide +kernel
theorem dX34_join_228 : decode cX34_join 228 = .ok (.checkcast 135, 3) := dk_192 0 135 (dk_at dksX34_join_9 21 rfl rfl)
theorem dX34_join_231 : decode cX34_join 231 = .ok (.aload 8, 2) := dk_25 8 (dk_at dksX34_join_10 0 rfl rfl)
theorem dX34_join_233 : decode cX34_join 233 = .ok (.invokeinterface 233 1, 5) := by decide +kernel
theorem dX34_join_238 : decode cX34_join 238 = .ok (.checkcast 165, 3) := dk_192 0 165 (dk_at dksX34_join_10 7 rfl rfl)
theorem dX34_join_241 : decode cX34_join 241 = .ok (.invokevirtual 173, 3) := dk_182 0 173 (dk_at dksX34_join_10 10 rfl rfl)
theorem dX34_join_244 : decode cX34_join 244 = .ok (.pop, 1) := dk_87 (dk_at dksX34_join_10 13 rfl rfl)
theorem dX34_join_245 : decode cX34_join 245 = .ok (.goto (-50), 3) := dk_167 255 206 (dk_at dksX34_join_10 14 rfl rfl)
theorem dX34_join_248 : decode cX34_join 248 = .ok (.aload_n 3, 1) := dk_45 (dk_at dksX34_join_10 17 rfl rfl)
theorem dX34_join_249 : decode cX34_join 249 = .ok (.getfield 242, 3) := dk_180 0 242 (dk_at dksX34_join_10 18 rfl rfl)
theorem dX34_join_252 : decode cX34_join 252 = .ok (.aload 4, 2) := dk_25 4 (dk_at dksX34_join_10 21 rfl rfl)
theorem dX34_join_254 : decode cX34_join 254 = .ok (.getfield 242, 3) := dk_180 0 242 (dk_at dksX34_join_11 0 rfl rfl)
theorem dX34_join_257 : decode cX34_join 257 = .ok (.invokevirtual 244, 3) := dk_182 0 244 (dk_at dksX34_join_11 3 rfl rfl)
theorem dX34_join_260 : decode cX34_join 260 = .ok (.pop, 1) := dk_87 (dk_at dksX34_join_11 6 rfl rfl)
theorem dX34_join_261 : decode cX34_join 261 = .ok (.aload 4, 2) := dk_25 4 (dk_at dksX34_join_11 7 rfl rfl)
theorem dX34_join_263 : decode cX34_join 263 = .ok (.getfield 242, 3) := dk_180 0 242 (dk_at dksX34_join_11 9 rfl rfl)
theorem dX34_join_266 : decode cX34_join 266 = .ok (.invokevirtual 248, 3) := dk_182 0 248 (dk_at dksX34_join_11 12 rfl rfl)
theorem dX34_join_269 : decode cX34_join 269 = .ok (.astore 7, 2) := dk_58 7 (dk_at dksX34_join_11 15 rfl rfl)
theorem dX34_join_271 : decode cX34_join 271 = .ok (.aload 7, 2) := dk_25 7 (dk_at dksX34_join_11 17 rfl rfl)
theorem dX34_join_273 : decode cX34_join 273 = .ok (.invokeinterface 212 1, 5) := by decide +kernel
theorem dX34_join_278 : decode cX34_join 278 = .ok (.ifCond .eq 37, 3) := dk_153 0 37 (dk_at dksX34_join_12 0 rfl rfl)
theorem dX34_join_281 : decode cX34_join 281 = .ok (.aload 7, 2) := dk_25 7 (dk_at dksX34_join_12 3 rfl rfl)
theorem dX34_join_283 : decode cX34_join 283 = .ok (.invokeinterface 218 1, 5) := by decide +kernel
theorem dX34_join_288 : decode cX34_join 288 = .ok (.checkcast 165, 3) := dk_192 0 165 (dk_at dksX34_join_12 10 rfl rfl)
theorem dX34_join_291 : decode cX34_join 291 = .ok (.invokevirtual 167, 3) := dk_182 0 167 (dk_at dksX34_join_12 13 rfl rfl)
theorem dX34_join_294 : decode cX34_join 294 = .ok (.istore 8, 2) := dk_54 8 (dk_at dksX34_join_12 16 rfl rfl)
theorem dX34_join_296 : decode cX34_join 296 = .ok (.aload_n 0, 1) := dk_42 (dk_at dksX34_join_12 18 rfl rfl)
theorem dX34_join_297 : decode cX34_join 297 = .ok (.getfield 19, 3) := dk_180 0 19 (dk_at dksX34_join_12 19 rfl rfl)
theorem dX34_join_300 : decode cX34_join 300 = .ok (.iload 8, 2) := dk_21 8 (dk_at dksX34_join_12 22 rfl rfl)
theorem dX34_join_302 : decode cX34_join 302 = .ok (.invokevirtual 112, 3) := dk_182 0 112 (dk_at dksX34_join_13 0 rfl rfl)
theorem dX34_join_305 : decode cX34_join 305 = .ok (.checkcast 96, 3) := dk_192 0 96 (dk_at dksX34_join_13 3 rfl rfl)
theorem dX34_join_308 : decode cX34_join 308 = .ok (.aload_n 3, 1) := dk_45 (dk_at dksX34_join_13 6 rfl rfl)
theorem dX34_join_309 : decode cX34_join 309 = .ok (.putfield 126, 3) := dk_181 0 126 (dk_at dksX34_join_13 7 rfl rfl)
theorem dX34_join_312 : decode cX34_join 312 = .ok (.goto (-41), 3) := dk_167 255 215 (dk_at dksX34_join_13 10 rfl rfl)
theorem dX34_join_315 : decode cX34_join 315 = .ok (.iload 5, 2) := dk_21 5 (dk_at dksX34_join_13 13 rfl rfl)
theorem dX34_join_317 : decode cX34_join 317 = .ok (.ireturn, 1) := dk_172 (dk_at dksX34_join_13 15 rfl rfl)
abbrev cX34_double2 : ByteArray := prog_9_method_19_code
def yX34_double2 : MethodName := ⟨RX34, "double2", "(II)I"⟩
def dkwX34_double2_1 : List UInt8 := [164, 0, 7, 2, 167, 0, 18, 42, 180, 0, 29, 27, 182, 0, 112, 192, 0, 227, 28, 182, 0, 249, 172]
abbrev dktX34_double2_1 : List UInt8 := dkwX34_double2_1 ++ []
def dkwX34_double2_0 : List UInt8 := [27, 155, 0, 24, 27, 42, 180, 0, 29, 182, 0, 66, 162, 0, 13, 28, 155, 0, 9, 28, 16, 20]
abbrev dktX34_double2_0 : List UInt8 := dkwX34_double2_0 ++ dktX34_double2_1
theorem dksX34_double2_0 : cX34_double2.data.toList.drop 0 = dktX34_double2_0 := by decide +kernel
theorem dksX34_double2_1 : cX34_double2.data.toList.drop 22 = dktX34_double2_1 := dk_seg dksX34_double2_0 22 rfl rfl
theorem dX34_double2_0 : decode cX34_double2 0 = .ok (.iload_n 1, 1) := dk_27 (dk_at dksX34_double2_0 0 rfl rfl)
theorem dX34_double2_1 : decode cX34_double2 1 = .ok (.ifCond .lt 24, 3) := dk_155 0 24 (dk_at dksX34_double2_0 1 rfl rfl)
theorem dX34_double2_4 : decode cX34_double2 4 = .ok (.iload_n 1, 1) := dk_27 (dk_at dksX34_double2_0 4 rfl rfl)
theorem dX34_double2_5 : decode cX34_double2 5 = .ok (.aload_n 0, 1) := dk_42 (dk_at dksX34_double2_0 5 rfl rfl)
theorem dX34_double2_6 : decode cX34_double2 6 = .ok (.getfield 29, 3) := dk_180 0 29 (dk_at dksX34_double2_0 6 rfl rfl)
theorem dX34_double2_9 : decode cX34_double2 9 = .ok (.invokevirtual 66, 3) := dk_182 0 66 (dk_at dksX34_double2_0 9 rfl rfl)
theorem dX34_double2_12 : decode cX34_double2 12 = .ok (.if_icmp .ge 13, 3) := dk_162 0 13 (dk_at dksX34_double2_0 12 rfl rfl)
theorem dX34_double2_15 : decode cX34_double2 15 = .ok (.iload_n 2, 1) := dk_28 (dk_at dksX34_double2_0 15 rfl rfl)
theorem dX34_double2_16 : decode cX34_double2 16 = .ok (.ifCond .lt 9, 3) := dk_155 0 9 (dk_at dksX34_double2_0 16 rfl rfl)
theorem dX34_double2_19 : decode cX34_double2 19 = .ok (.iload_n 2, 1) := dk_28 (dk_at dksX34_double2_0 19 rfl rfl)
theorem dX34_double2_20 : decode cX34_double2 20 = .ok (.bipush 20, 2) := dk_16 20 (dk_at dksX34_double2_0 20 rfl rfl)
theorem dX34_double2_22 : decode cX34_double2 22 = .ok (.if_icmp .le 7, 3) := dk_164 0 7 (dk_at dksX34_double2_1 0 rfl rfl)
theorem dX34_double2_25 : decode cX34_double2 25 = .ok (.iconst (-1), 1) := dk_2 (dk_at dksX34_double2_1 3 rfl rfl)
theorem dX34_double2_26 : decode cX34_double2 26 = .ok (.goto 18, 3) := dk_167 0 18 (dk_at dksX34_double2_1 4 rfl rfl)
theorem dX34_double2_29 : decode cX34_double2 29 = .ok (.aload_n 0, 1) := dk_42 (dk_at dksX34_double2_1 7 rfl rfl)
theorem dX34_double2_30 : decode cX34_double2 30 = .ok (.getfield 29, 3) := dk_180 0 29 (dk_at dksX34_double2_1 8 rfl rfl)
theorem dX34_double2_33 : decode cX34_double2 33 = .ok (.iload_n 1, 1) := dk_27 (dk_at dksX34_double2_1 11 rfl rfl)
theorem dX34_double2_34 : decode cX34_double2 34 = .ok (.invokevirtual 112, 3) := dk_182 0 112 (dk_at dksX34_double2_1 12 rfl rfl)
theorem dX34_double2_37 : decode cX34_double2 37 = .ok (.checkcast 227, 3) := dk_192 0 227 (dk_at dksX34_double2_1 15 rfl rfl)
theorem dX34_double2_40 : decode cX34_double2 40 = .ok (.iload_n 2, 1) := dk_28 (dk_at dksX34_double2_1 18 rfl rfl)
theorem dX34_double2_41 : decode cX34_double2 41 = .ok (.invokevirtual 249, 3) := dk_182 0 249 (dk_at dksX34_double2_1 19 rfl rfl)
theorem dX34_double2_44 : decode cX34_double2 44 = .ok (.ireturn, 1) := dk_172 (dk_at dksX34_double2_1 22 rfl rfl)
abbrev cX34_mark : ByteArray := prog_9_method_20_code
def yX34_mark : MethodName := ⟨RX34, "mark", "(JJJ)Z"⟩
def dkwX34_mark_2 : List UInt8 := [10, 97, 105, 20, 1, 2, 113, 22, 5, 148, 154, 0, 7, 4, 167, 0, 4, 3, 172]
abbrev dktX34_mark_2 : List UInt8 := dkwX34_mark_2 ++ []
def dkwX34_mark_1 : List UInt8 := [20, 0, 252, 113, 55, 9, 22, 7, 20, 0, 254, 22, 9, 105, 97, 22, 7, 20, 1, 0, 22, 9, 105, 97]
abbrev dktX34_mark_1 : List UInt8 := dkwX34_mark_1 ++ dktX34_mark_2
def dkwX34_mark_0 : List UInt8 := [31, 184, 0, 82, 153, 0, 10, 33, 184, 0, 82, 154, 0, 5, 3, 172, 31, 20, 0, 252, 113, 55, 7, 33]
abbrev dktX34_mark_0 : List UInt8 := dkwX34_mark_0 ++ dktX34_mark_1
theorem dksX34_mark_0 : cX34_mark.data.toList.drop 0 = dktX34_mark_0 := by decide +kernel
theorem dksX34_mark_1 : cX34_mark.data.toList.drop 24 = dktX34_mark_1 := dk_seg dksX34_mark_0 24 rfl rfl
theorem dksX34_mark_2 : cX34_mark.data.toList.drop 48 = dktX34_mark_2 := dk_seg dksX34_mark_1 24 rfl rfl
theorem dX34_mark_0 : decode cX34_mark 0 = .ok (.lload_n 1, 1) := dk_31 (dk_at dksX34_mark_0 0 rfl rfl)
theorem dX34_mark_1 : decode cX34_mark 1 = .ok (.invokestatic 82, 3) := dk_184 0 82 (dk_at dksX34_mark_0 1 rfl rfl)
theorem dX34_mark_4 : decode cX34_mark 4 = .ok (.ifCond .eq 10, 3) := dk_153 0 10 (dk_at dksX34_mark_0 4 rfl rfl)
theorem dX34_mark_7 : decode cX34_mark 7 = .ok (.lload_n 3, 1) := dk_33 (dk_at dksX34_mark_0 7 rfl rfl)
theorem dX34_mark_8 : decode cX34_mark 8 = .ok (.invokestatic 82, 3) := dk_184 0 82 (dk_at dksX34_mark_0 8 rfl rfl)
theorem dX34_mark_11 : decode cX34_mark 11 = .ok (.ifCond .ne 5, 3) := dk_154 0 5 (dk_at dksX34_mark_0 11 rfl rfl)
theorem dX34_mark_14 : decode cX34_mark 14 = .ok (.iconst 0, 1) := dk_3 (dk_at dksX34_mark_0 14 rfl rfl)
theorem dX34_mark_15 : decode cX34_mark 15 = .ok (.ireturn, 1) := dk_172 (dk_at dksX34_mark_0 15 rfl rfl)
theorem dX34_mark_16 : decode cX34_mark 16 = .ok (.lload_n 1, 1) := dk_31 (dk_at dksX34_mark_0 16 rfl rfl)
theorem dX34_mark_17 : decode cX34_mark 17 = .ok (.ldc2_w 252, 3) := dk_20 0 252 (dk_at dksX34_mark_0 17 rfl rfl)
theorem dX34_mark_20 : decode cX34_mark 20 = .ok (.lrem, 1) := dk_113 (dk_at dksX34_mark_0 20 rfl rfl)
theorem dX34_mark_21 : decode cX34_mark 21 = .ok (.lstore 7, 2) := dk_55 7 (dk_at dksX34_mark_0 21 rfl rfl)
theorem dX34_mark_23 : decode cX34_mark 23 = .ok (.lload_n 3, 1) := dk_33 (dk_at dksX34_mark_0 23 rfl rfl)
theorem dX34_mark_24 : decode cX34_mark 24 = .ok (.ldc2_w 252, 3) := dk_20 0 252 (dk_at dksX34_mark_1 0 rfl rfl)
theorem dX34_mark_27 : decode cX34_mark 27 = .ok (.lrem, 1) := dk_113 (dk_at dksX34_mark_1 3 rfl rfl)
theorem dX34_mark_28 : decode cX34_mark 28 = .ok (.lstore 9, 2) := dk_55 9 (dk_at dksX34_mark_1 4 rfl rfl)
theorem dX34_mark_30 : decode cX34_mark 30 = .ok (.lload 7, 2) := dk_22 7 (dk_at dksX34_mark_1 6 rfl rfl)
theorem dX34_mark_32 : decode cX34_mark 32 = .ok (.ldc2_w 254, 3) := dk_20 0 254 (dk_at dksX34_mark_1 8 rfl rfl)
theorem dX34_mark_35 : decode cX34_mark 35 = .ok (.lload 9, 2) := dk_22 9 (dk_at dksX34_mark_1 11 rfl rfl)
theorem dX34_mark_37 : decode cX34_mark 37 = .ok (.lmul, 1) := dk_105 (dk_at dksX34_mark_1 13 rfl rfl)
theorem dX34_mark_38 : decode cX34_mark 38 = .ok (.ladd, 1) := dk_97 (dk_at dksX34_mark_1 14 rfl rfl)
theorem dX34_mark_39 : decode cX34_mark 39 = .ok (.lload 7, 2) := dk_22 7 (dk_at dksX34_mark_1 15 rfl rfl)
theorem dX34_mark_41 : decode cX34_mark 41 = .ok (.ldc2_w 256, 3) := dk_20 1 0 (dk_at dksX34_mark_1 17 rfl rfl)
theorem dX34_mark_44 : decode cX34_mark 44 = .ok (.lload 9, 2) := dk_22 9 (dk_at dksX34_mark_1 20 rfl rfl)
theorem dX34_mark_46 : decode cX34_mark 46 = .ok (.lmul, 1) := dk_105 (dk_at dksX34_mark_1 22 rfl rfl)
theorem dX34_mark_47 : decode cX34_mark 47 = .ok (.ladd, 1) := dk_97 (dk_at dksX34_mark_1 23 rfl rfl)
theorem dX34_mark_48 : decode cX34_mark 48 = .ok (.lconst 1, 1) := dk_10 (dk_at dksX34_mark_2 0 rfl rfl)
theorem dX34_mark_49 : decode cX34_mark 49 = .ok (.ladd, 1) := dk_97 (dk_at dksX34_mark_2 1 rfl rfl)
theorem dX34_mark_50 : decode cX34_mark 50 = .ok (.lmul, 1) := dk_105 (dk_at dksX34_mark_2 2 rfl rfl)
theorem dX34_mark_51 : decode cX34_mark 51 = .ok (.ldc2_w 258, 3) := dk_20 1 2 (dk_at dksX34_mark_2 3 rfl rfl)
theorem dX34_mark_54 : decode cX34_mark 54 = .ok (.lrem, 1) := dk_113 (dk_at dksX34_mark_2 6 rfl rfl)
theorem dX34_mark_55 : decode cX34_mark 55 = .ok (.lload 5, 2) := dk_22 5 (dk_at dksX34_mark_2 7 rfl rfl)
theorem dX34_mark_57 : decode cX34_mark 57 = .ok (.lcmp, 1) := dk_148 (dk_at dksX34_mark_2 9 rfl rfl)
theorem dX34_mark_58 : decode cX34_mark 58 = .ok (.ifCond .ne 7, 3) := dk_154 0 7 (dk_at dksX34_mark_2 10 rfl rfl)
theorem dX34_mark_61 : decode cX34_mark 61 = .ok (.iconst 1, 1) := dk_4 (dk_at dksX34_mark_2 13 rfl rfl)
theorem dX34_mark_62 : decode cX34_mark 62 = .ok (.goto 4, 3) := dk_167 0 4 (dk_at dksX34_mark_2 14 rfl rfl)
theorem dX34_mark_65 : decode cX34_mark 65 = .ok (.iconst 0, 1) := dk_3 (dk_at dksX34_mark_2 17 rfl rfl)
theorem dX34_mark_66 : decode cX34_mark 66 = .ok (.ireturn, 1) := dk_172 (dk_at dksX34_mark_2 18 rfl rfl)
abbrev cX34_coupon : ByteArray := prog_9_method_21_code
def yX34_coupon : MethodName := ⟨RX34, "coupon", "(I)I"⟩
def dkwX34_coupon_3 : List UInt8 := [184, 0, 170, 182, 0, 101, 87, 44, 3, 181, 0, 188, 42, 180, 0, 53, 182, 0, 66, 4, 100, 172]
abbrev dktX34_coupon_3 : List UInt8 := dkwX34_coupon_3 ++ []
def dkwX34_coupon_2 : List UInt8 := [180, 0, 19, 27, 182, 0, 112, 192, 0, 96, 77, 42, 180, 0, 53, 16, 25, 44, 180, 0, 188, 104]
abbrev dktX34_coupon_2 : List UInt8 := dkwX34_coupon_2 ++ dktX34_coupon_3
def dkwX34_coupon_1 : List UInt8 := [153, 0, 20, 42, 180, 0, 19, 27, 182, 0, 112, 192, 0, 96, 180, 0, 188, 154, 0, 5, 2, 172, 42]
abbrev dktX34_coupon_1 : List UInt8 := dkwX34_coupon_1 ++ dktX34_coupon_2
def dkwX34_coupon_0 : List UInt8 := [42, 27, 182, 0, 108, 153, 0, 37, 42, 180, 0, 19, 27, 182, 0, 112, 192, 0, 96, 180, 0, 120]
abbrev dktX34_coupon_0 : List UInt8 := dkwX34_coupon_0 ++ dktX34_coupon_1
theorem dksX34_coupon_0 : cX34_coupon.data.toList.drop 0 = dktX34_coupon_0 := by decide +kernel
theorem dksX34_coupon_1 : cX34_coupon.data.toList.drop 22 = dktX34_coupon_1 := dk_seg dksX34_coupon_0 22 rfl rfl
theorem dksX34_coupon_2 : cX34_coupon.data.toList.drop 45 = dktX34_coupon_2 := dk_seg dksX34_coupon_1 23 rfl rfl
theorem dksX34_coupon_3 : cX34_coupon.data.toList.drop 67 = dktX34_coupon_3 := dk_seg dksX34_coupon_2 22 rfl rfl
theorem dX34_coupon_0 : decode cX34_coupon 0 = .ok (.aload_n 0, 1) := dk_42 (dk_at dksX34_coupon_0 0 rfl rfl)
theorem dX34_coupon_1 : decode cX34_coupon 1 = .ok (.iload_n 1, 1) := dk_27 (dk_at dksX34_coupon_0 1 rfl rfl)
theorem dX34_coupon_2 : decode cX34_coupon 2 = .ok (.invokevirtual 108, 3) := dk_182 0 108 (dk_at dksX34_coupon_0 2 rfl rfl)
theorem dX34_coupon_5 : decode cX34_coupon 5 = .ok (.ifCond .eq 37, 3) := dk_153 0 37 (dk_at dksX34_coupon_0 5 rfl rfl)
theorem dX34_coupon_8 : decode cX34_coupon 8 = .ok (.aload_n 0, 1) := dk_42 (dk_at dksX34_coupon_0 8 rfl rfl)
theorem dX34_coupon_9 : decode cX34_coupon 9 = .ok (.getfield 19, 3) := dk_180 0 19 (dk_at dksX34_coupon_0 9 rfl rfl)
theorem dX34_coupon_12 : decode cX34_coupon 12 = .ok (.iload_n 1, 1) := dk_27 (dk_at dksX34_coupon_0 12 rfl rfl)
theorem dX34_coupon_13 : decode cX34_coupon 13 = .ok (.invokevirtual 112, 3) := dk_182 0 112 (dk_at dksX34_coupon_0 13 rfl rfl)
theorem dX34_coupon_16 : decode cX34_coupon 16 = .ok (.checkcast 96, 3) := dk_192 0 96 (dk_at dksX34_coupon_0 16 rfl rfl)
theorem dX34_coupon_19 : decode cX34_coupon 19 = .ok (.getfield 120, 3) := dk_180 0 120 (dk_at dksX34_coupon_0 19 rfl rfl)
theorem dX34_coupon_22 : decode cX34_coupon 22 = .ok (.ifCond .eq 20, 3) := dk_153 0 20 (dk_at dksX34_coupon_1 0 rfl rfl)
theorem dX34_coupon_25 : decode cX34_coupon 25 = .ok (.aload_n 0, 1) := dk_42 (dk_at dksX34_coupon_1 3 rfl rfl)
theorem dX34_coupon_26 : decode cX34_coupon 26 = .ok (.getfield 19, 3) := dk_180 0 19 (dk_at dksX34_coupon_1 4 rfl rfl)
theorem dX34_coupon_29 : decode cX34_coupon 29 = .ok (.iload_n 1, 1) := dk_27 (dk_at dksX34_coupon_1 7 rfl rfl)
theorem dX34_coupon_30 : decode cX34_coupon 30 = .ok (.invokevirtual 112, 3) := dk_182 0 112 (dk_at dksX34_coupon_1 8 rfl rfl)
theorem dX34_coupon_33 : decode cX34_coupon 33 = .ok (.checkcast 96, 3) := dk_192 0 96 (dk_at dksX34_coupon_1 11 rfl rfl)
theorem dX34_coupon_36 : decode cX34_coupon 36 = .ok (.getfield 188, 3) := dk_180 0 188 (dk_at dksX34_coupon_1 14 rfl rfl)
theorem dX34_coupon_39 : decode cX34_coupon 39 = .ok (.ifCond .ne 5, 3) := dk_154 0 5 (dk_at dksX34_coupon_1 17 rfl rfl)
theorem dX34_coupon_42 : decode cX34_coupon 42 = .ok (.iconst (-1), 1) := dk_2 (dk_at dksX34_coupon_1 20 rfl rfl)
theorem dX34_coupon_43 : decode cX34_coupon 43 = .ok (.ireturn, 1) := dk_172 (dk_at dksX34_coupon_1 21 rfl rfl)
theorem dX34_coupon_44 : decode cX34_coupon 44 = .ok (.aload_n 0, 1) := dk_42 (dk_at dksX34_coupon_1 22 rfl rfl)
theorem dX34_coupon_45 : decode cX34_coupon 45 = .ok (.getfield 19, 3) := dk_180 0 19 (dk_at dksX34_coupon_2 0 rfl rfl)
theorem dX34_coupon_48 : decode cX34_coupon 48 = .ok (.iload_n 1, 1) := dk_27 (dk_at dksX34_coupon_2 3 rfl rfl)
theorem dX34_coupon_49 : decode cX34_coupon 49 = .ok (.invokevirtual 112, 3) := dk_182 0 112 (dk_at dksX34_coupon_2 4 rfl rfl)
theorem dX34_coupon_52 : decode cX34_coupon 52 = .ok (.checkcast 96, 3) := dk_192 0 96 (dk_at dksX34_coupon_2 7 rfl rfl)
theorem dX34_coupon_55 : decode cX34_coupon 55 = .ok (.astore_n 2, 1) := dk_77 (dk_at dksX34_coupon_2 10 rfl rfl)
theorem dX34_coupon_56 : decode cX34_coupon 56 = .ok (.aload_n 0, 1) := dk_42 (dk_at dksX34_coupon_2 11 rfl rfl)
theorem dX34_coupon_57 : decode cX34_coupon 57 = .ok (.getfield 53, 3) := dk_180 0 53 (dk_at dksX34_coupon_2 12 rfl rfl)
theorem dX34_coupon_60 : decode cX34_coupon 60 = .ok (.bipush 25, 2) := dk_16 25 (dk_at dksX34_coupon_2 15 rfl rfl)
theorem dX34_coupon_62 : decode cX34_coupon 62 = .ok (.aload_n 2, 1) := dk_44 (dk_at dksX34_coupon_2 17 rfl rfl)
theorem dX34_coupon_63 : decode cX34_coupon 63 = .ok (.getfield 188, 3) := dk_180 0 188 (dk_at dksX34_coupon_2 18 rfl rfl)
theorem dX34_coupon_66 : decode cX34_coupon 66 = .ok (.imul, 1) := dk_104 (dk_at dksX34_coupon_2 21 rfl rfl)
theorem dX34_coupon_67 : decode cX34_coupon 67 = .ok (.invokestatic 170, 3) := dk_184 0 170 (dk_at dksX34_coupon_3 0 rfl rfl)
theorem dX34_coupon_70 : decode cX34_coupon 70 = .ok (.invokevirtual 101, 3) := dk_182 0 101 (dk_at dksX34_coupon_3 3 rfl rfl)
theorem dX34_coupon_73 : decode cX34_coupon 73 = .ok (.pop, 1) := dk_87 (dk_at dksX34_coupon_3 6 rfl rfl)
theorem dX34_coupon_74 : decode cX34_coupon 74 = .ok (.aload_n 2, 1) := dk_44 (dk_at dksX34_coupon_3 7 rfl rfl)
theorem dX34_coupon_75 : decode cX34_coupon 75 = .ok (.iconst 0, 1) := dk_3 (dk_at dksX34_coupon_3 8 rfl rfl)
theorem dX34_coupon_76 : decode cX34_coupon 76 = .ok (.putfield 188, 3) := dk_181 0 188 (dk_at dksX34_coupon_3 9 rfl rfl)
theorem dX34_coupon_79 : decode cX34_coupon 79 = .ok (.aload_n 0, 1) := dk_42 (dk_at dksX34_coupon_3 12 rfl rfl)
theorem dX34_coupon_80 : decode cX34_coupon 80 = .ok (.getfield 53, 3) := dk_180 0 53 (dk_at dksX34_coupon_3 13 rfl rfl)
theorem dX34_coupon_83 : decode cX34_coupon 83 = .ok (.invokevirtual 66, 3) := dk_182 0 66 (dk_at dksX34_coupon_3 16 rfl rfl)
theorem dX34_coupon_86 : decode cX34_coupon 86 = .ok (.iconst 1, 1) := dk_4 (dk_at dksX34_coupon_3 19 rfl rfl)
theorem dX34_coupon_87 : decode cX34_coupon 87 = .ok (.isub, 1) := dk_100 (dk_at dksX34_coupon_3 20 rfl rfl)
theorem dX34_coupon_88 : decode cX34_coupon 88 = .ok (.ireturn, 1) := dk_172 (dk_at dksX34_coupon_3 21 rfl rfl)
abbrev cX34_redeem : ByteArray := prog_9_method_22_code
def yX34_redeem : MethodName := ⟨RX34, "redeem", "(II)Z"⟩
def dkwX34_redeem_2 : List UInt8 := [92, 47, 42, 180, 0, 53, 27, 182, 0, 112, 192, 0, 165, 182, 0, 167, 133, 97, 80, 4, 172]
abbrev dktX34_redeem_2 : List UInt8 := dkwX34_redeem_2 ++ []
def dkwX34_redeem_1 : List UInt8 := [162, 0, 17, 42, 180, 0, 59, 27, 184, 0, 170, 182, 1, 4, 154, 0, 5, 3, 172, 42, 180, 0, 63, 28]
abbrev dktX34_redeem_1 : List UInt8 := dkwX34_redeem_1 ++ dktX34_redeem_2
def dkwX34_redeem_0 : List UInt8 := [27, 155, 0, 38, 27, 42, 180, 0, 53, 182, 0, 66, 162, 0, 27, 28, 155, 0, 23, 28, 16, 100]
abbrev dktX34_redeem_0 : List UInt8 := dkwX34_redeem_0 ++ dktX34_redeem_1
theorem dksX34_redeem_0 : cX34_redeem.data.toList.drop 0 = dktX34_redeem_0 := by decide +kernel
theorem dksX34_redeem_1 : cX34_redeem.data.toList.drop 22 = dktX34_redeem_1 := dk_seg dksX34_redeem_0 22 rfl rfl
theorem dksX34_redeem_2 : cX34_redeem.data.toList.drop 46 = dktX34_redeem_2 := dk_seg dksX34_redeem_1 24 rfl rfl
theorem dX34_redeem_0 : decode cX34_redeem 0 = .ok (.iload_n 1, 1) := dk_27 (dk_at dksX34_redeem_0 0 rfl rfl)
theorem dX34_redeem_1 : decode cX34_redeem 1 = .ok (.ifCond .lt 38, 3) := dk_155 0 38 (dk_at dksX34_redeem_0 1 rfl rfl)
theorem dX34_redeem_4 : decode cX34_redeem 4 = .ok (.iload_n 1, 1) := dk_27 (dk_at dksX34_redeem_0 4 rfl rfl)
theorem dX34_redeem_5 : decode cX34_redeem 5 = .ok (.aload_n 0, 1) := dk_42 (dk_at dksX34_redeem_0 5 rfl rfl)
theorem dX34_redeem_6 : decode cX34_redeem 6 = .ok (.getfield 53, 3) := dk_180 0 53 (dk_at dksX34_redeem_0 6 rfl rfl)
theorem dX34_redeem_9 : decode cX34_redeem 9 = .ok (.invokevirtual 66, 3) := dk_182 0 66 (dk_at dksX34_redeem_0 9 rfl rfl)
theorem dX34_redeem_12 : decode cX34_redeem 12 = .ok (.if_icmp .ge 27, 3) := dk_162 0 27 (dk_at dksX34_redeem_0 12 rfl rfl)
theorem dX34_redeem_15 : decode cX34_redeem 15 = .ok (.iload_n 2, 1) := dk_28 (dk_at dksX34_redeem_0 15 rfl rfl)
theorem dX34_redeem_16 : decode cX34_redeem 16 = .ok (.ifCond .lt 23, 3) := dk_155 0 23 (dk_at dksX34_redeem_0 16 rfl rfl)
theorem dX34_redeem_19 : decode cX34_redeem 19 = .ok (.iload_n 2, 1) := dk_28 (dk_at dksX34_redeem_0 19 rfl rfl)
theorem dX34_redeem_20 : decode cX34_redeem 20 = .ok (.bipush 100, 2) := dk_16 100 (dk_at dksX34_redeem_0 20 rfl rfl)
theorem dX34_redeem_22 : decode cX34_redeem 22 = .ok (.if_icmp .ge 17, 3) := dk_162 0 17 (dk_at dksX34_redeem_1 0 rfl rfl)
theorem dX34_redeem_25 : decode cX34_redeem 25 = .ok (.aload_n 0, 1) := dk_42 (dk_at dksX34_redeem_1 3 rfl rfl)
theorem dX34_redeem_26 : decode cX34_redeem 26 = .ok (.getfield 59, 3) := dk_180 0 59 (dk_at dksX34_redeem_1 4 rfl rfl)
theorem dX34_redeem_29 : decode cX34_redeem 29 = .ok (.iload_n 1, 1) := dk_27 (dk_at dksX34_redeem_1 7 rfl rfl)
theorem dX34_redeem_30 : decode cX34_redeem 30 = .ok (.invokestatic 170, 3) := dk_184 0 170 (dk_at dksX34_redeem_1 8 rfl rfl)
theorem dX34_redeem_33 : decode cX34_redeem 33 = .ok (.invokevirtual 260, 3) := dk_182 1 4 (dk_at dksX34_redeem_1 11 rfl rfl)
theorem dX34_redeem_36 : decode cX34_redeem 36 = .ok (.ifCond .ne 5, 3) := dk_154 0 5 (dk_at dksX34_redeem_1 14 rfl rfl)
theorem dX34_redeem_39 : decode cX34_redeem 39 = .ok (.iconst 0, 1) := dk_3 (dk_at dksX34_redeem_1 17 rfl rfl)
theorem dX34_redeem_40 : decode cX34_redeem 40 = .ok (.ireturn, 1) := dk_172 (dk_at dksX34_redeem_1 18 rfl rfl)
theorem dX34_redeem_41 : decode cX34_redeem 41 = .ok (.aload_n 0, 1) := dk_42 (dk_at dksX34_redeem_1 19 rfl rfl)
theorem dX34_redeem_42 : decode cX34_redeem 42 = .ok (.getfield 63, 3) := dk_180 0 63 (dk_at dksX34_redeem_1 20 rfl rfl)
theorem dX34_redeem_45 : decode cX34_redeem 45 = .ok (.iload_n 2, 1) := dk_28 (dk_at dksX34_redeem_1 23 rfl rfl)
theorem dX34_redeem_46 : decode cX34_redeem 46 = .ok (.dup2, 1) := dk_92 (dk_at dksX34_redeem_2 0 rfl rfl)
theorem dX34_redeem_47 : decode cX34_redeem 47 = .ok (.laload, 1) := dk_47 (dk_at dksX34_redeem_2 1 rfl rfl)
theorem dX34_redeem_48 : decode cX34_redeem 48 = .ok (.aload_n 0, 1) := dk_42 (dk_at dksX34_redeem_2 2 rfl rfl)
theorem dX34_redeem_49 : decode cX34_redeem 49 = .ok (.getfield 53, 3) := dk_180 0 53 (dk_at dksX34_redeem_2 3 rfl rfl)
theorem dX34_redeem_52 : decode cX34_redeem 52 = .ok (.iload_n 1, 1) := dk_27 (dk_at dksX34_redeem_2 6 rfl rfl)
theorem dX34_redeem_53 : decode cX34_redeem 53 = .ok (.invokevirtual 112, 3) := dk_182 0 112 (dk_at dksX34_redeem_2 7 rfl rfl)
theorem dX34_redeem_56 : decode cX34_redeem 56 = .ok (.checkcast 165, 3) := dk_192 0 165 (dk_at dksX34_redeem_2 10 rfl rfl)
theorem dX34_redeem_59 : decode cX34_redeem 59 = .ok (.invokevirtual 167, 3) := dk_182 0 167 (dk_at dksX34_redeem_2 13 rfl rfl)
theorem dX34_redeem_62 : decode cX34_redeem 62 = .ok (.i2l, 1) := dk_133 (dk_at dksX34_redeem_2 16 rfl rfl)
theorem dX34_redeem_63 : decode cX34_redeem 63 = .ok (.ladd, 1) := dk_97 (dk_at dksX34_redeem_2 17 rfl rfl)
theorem dX34_redeem_64 : decode cX34_redeem 64 = .ok (.lastore, 1) := dk_80 (dk_at dksX34_redeem_2 18 rfl rfl)
theorem dX34_redeem_65 : decode cX34_redeem 65 = .ok (.iconst 1, 1) := dk_4 (dk_at dksX34_redeem_2 19 rfl rfl)
theorem dX34_redeem_66 : decode cX34_redeem 66 = .ok (.ireturn, 1) := dk_172 (dk_at dksX34_redeem_2 20 rfl rfl)
abbrev cX34_shop : ByteArray := prog_9_method_23_code
def yX34_shop : MethodName := ⟨RX34, "shop", "(I)J"⟩
def dkwX34_shop_0 : List UInt8 := [27, 155, 0, 9, 27, 16, 100, 161, 0, 9, 20, 0, 200, 167, 0, 9, 42, 180, 0, 63, 27, 47, 173]
abbrev dktX34_shop_0 : List UInt8 := dkwX34_shop_0 ++ []
theorem dksX34_shop_0 : cX34_shop.data.toList.drop 0 = dktX34_shop_0 := by decide +kernel
theorem dX34_shop_0 : decode cX34_shop 0 = .ok (.iload_n 1, 1) := dk_27 (dk_at dksX34_shop_0 0 rfl rfl)
theorem dX34_shop_1 : decode cX34_shop 1 = .ok (.ifCond .lt 9, 3) := dk_155 0 9 (dk_at dksX34_shop_0 1 rfl rfl)
theorem dX34_shop_4 : decode cX34_shop 4 = .ok (.iload_n 1, 1) := dk_27 (dk_at dksX34_shop_0 4 rfl rfl)
theorem dX34_shop_5 : decode cX34_shop 5 = .ok (.bipush 100, 2) := dk_16 100 (dk_at dksX34_shop_0 5 rfl rfl)
theorem dX34_shop_7 : decode cX34_shop 7 = .ok (.if_icmp .lt 9, 3) := dk_161 0 9 (dk_at dksX34_shop_0 7 rfl rfl)
theorem dX34_shop_10 : decode cX34_shop 10 = .ok (.ldc2_w 200, 3) := dk_20 0 200 (dk_at dksX34_shop_0 10 rfl rfl)
theorem dX34_shop_13 : decode cX34_shop 13 = .ok (.goto 9, 3) := dk_167 0 9 (dk_at dksX34_shop_0 13 rfl rfl)
theorem dX34_shop_16 : decode cX34_shop 16 = .ok (.aload_n 0, 1) := dk_42 (dk_at dksX34_shop_0 16 rfl rfl)
theorem dX34_shop_17 : decode cX34_shop 17 = .ok (.getfield 63, 3) := dk_180 0 63 (dk_at dksX34_shop_0 17 rfl rfl)
theorem dX34_shop_20 : decode cX34_shop 20 = .ok (.iload_n 1, 1) := dk_27 (dk_at dksX34_shop_0 20 rfl rfl)
theorem dX34_shop_21 : decode cX34_shop 21 = .ok (.laload, 1) := dk_47 (dk_at dksX34_shop_0 21 rfl rfl)
theorem dX34_shop_22 : decode cX34_shop 22 = .ok (.lreturn, 1) := dk_173 (dk_at dksX34_shop_0 22 rfl rfl)
abbrev cX34_clear : ByteArray := prog_9_method_24_code
def yX34_clear : MethodName := ⟨RX34, "clear", "(I)I"⟩
def dkwX34_clear_3 : List UInt8 := [153, 0, 7, 4, 167, 0, 4, 3, 96, 62, 132, 4, 1, 167, 255, 208, 29, 172]
abbrev dktX34_clear_3 : List UInt8 := dkwX34_clear_3 ++ []
def dkwX34_clear_2 : List UInt8 := [199, 0, 7, 9, 167, 0, 7, 44, 21, 4, 47, 80, 29, 42, 180, 0, 49, 21, 4, 47, 9, 148]
abbrev dktX34_clear_2 : List UInt8 := dkwX34_clear_2 ++ dktX34_clear_3
def dkwX34_clear_1 : List UInt8 := [192, 0, 191, 77, 3, 62, 3, 54, 4, 21, 4, 6, 162, 0, 48, 42, 180, 0, 49, 21, 4, 44]
abbrev dktX34_clear_1 : List UInt8 := dkwX34_clear_1 ++ dktX34_clear_2
def dkwX34_clear_0 : List UInt8 := [27, 155, 0, 10, 27, 19, 1, 5, 164, 0, 5, 2, 172, 42, 180, 0, 46, 27, 184, 0, 170, 182, 0, 162]
abbrev dktX34_clear_0 : List UInt8 := dkwX34_clear_0 ++ dktX34_clear_1
theorem dksX34_clear_0 : cX34_clear.data.toList.drop 0 = dktX34_clear_0 := by decide +kernel
theorem dksX34_clear_1 : cX34_clear.data.toList.drop 24 = dktX34_clear_1 := dk_seg dksX34_clear_0 24 rfl rfl
theorem dksX34_clear_2 : cX34_clear.data.toList.drop 46 = dktX34_clear_2 := dk_seg dksX34_clear_1 22 rfl rfl
theorem dksX34_clear_3 : cX34_clear.data.toList.drop 68 = dktX34_clear_3 := dk_seg dksX34_clear_2 22 rfl rfl
theorem dX34_clear_0 : decode cX34_clear 0 = .ok (.iload_n 1, 1) := dk_27 (dk_at dksX34_clear_0 0 rfl rfl)
theorem dX34_clear_1 : decode cX34_clear 1 = .ok (.ifCond .lt 10, 3) := dk_155 0 10 (dk_at dksX34_clear_0 1 rfl rfl)
theorem dX34_clear_4 : decode cX34_clear 4 = .ok (.iload_n 1, 1) := dk_27 (dk_at dksX34_clear_0 4 rfl rfl)
theorem dX34_clear_5 : decode cX34_clear 5 = .ok (.ldc_w 261, 3) := dk_19 1 5 (dk_at dksX34_clear_0 5 rfl rfl)
theorem dX34_clear_8 : decode cX34_clear 8 = .ok (.if_icmp .le 5, 3) := dk_164 0 5 (dk_at dksX34_clear_0 8 rfl rfl)
theorem dX34_clear_11 : decode cX34_clear 11 = .ok (.iconst (-1), 1) := dk_2 (dk_at dksX34_clear_0 11 rfl rfl)
theorem dX34_clear_12 : decode cX34_clear 12 = .ok (.ireturn, 1) := dk_172 (dk_at dksX34_clear_0 12 rfl rfl)
theorem dX34_clear_13 : decode cX34_clear 13 = .ok (.aload_n 0, 1) := dk_42 (dk_at dksX34_clear_0 13 rfl rfl)
theorem dX34_clear_14 : decode cX34_clear 14 = .ok (.getfield 46, 3) := dk_180 0 46 (dk_at dksX34_clear_0 14 rfl rfl)
theorem dX34_clear_17 : decode cX34_clear 17 = .ok (.iload_n 1, 1) := dk_27 (dk_at dksX34_clear_0 17 rfl rfl)
theorem dX34_clear_18 : decode cX34_clear 18 = .ok (.invokestatic 170, 3) := dk_184 0 170 (dk_at dksX34_clear_0 18 rfl rfl)
theorem dX34_clear_21 : decode cX34_clear 21 = .ok (.invokevirtual 162, 3) := dk_182 0 162 (dk_at dksX34_clear_0 21 rfl rfl)
theorem dX34_clear_24 : decode cX34_clear 24 = .ok (.checkcast 191, 3) := dk_192 0 191 (dk_at dksX34_clear_1 0 rfl rfl)
theorem dX34_clear_27 : decode cX34_clear 27 = .ok (.astore_n 2, 1) := dk_77 (dk_at dksX34_clear_1 3 rfl rfl)
theorem dX34_clear_28 : decode cX34_clear 28 = .ok (.iconst 0, 1) := dk_3 (dk_at dksX34_clear_1 4 rfl rfl)
theorem dX34_clear_29 : decode cX34_clear 29 = .ok (.istore_n 3, 1) := dk_62 (dk_at dksX34_clear_1 5 rfl rfl)
theorem dX34_clear_30 : decode cX34_clear 30 = .ok (.iconst 0, 1) := dk_3 (dk_at dksX34_clear_1 6 rfl rfl)
theorem dX34_clear_31 : decode cX34_clear 31 = .ok (.istore 4, 2) := dk_54 4 (dk_at dksX34_clear_1 7 rfl rfl)
theorem dX34_clear_33 : decode cX34_clear 33 = .ok (.iload 4, 2) := dk_21 4 (dk_at dksX34_clear_1 9 rfl rfl)
theorem dX34_clear_35 : decode cX34_clear 35 = .ok (.iconst 3, 1) := dk_6 (dk_at dksX34_clear_1 11 rfl rfl)
theorem dX34_clear_36 : decode cX34_clear 36 = .ok (.if_icmp .ge 48, 3) := dk_162 0 48 (dk_at dksX34_clear_1 12 rfl rfl)
theorem dX34_clear_39 : decode cX34_clear 39 = .ok (.aload_n 0, 1) := dk_42 (dk_at dksX34_clear_1 15 rfl rfl)
theorem dX34_clear_40 : decode cX34_clear 40 = .ok (.getfield 49, 3) := dk_180 0 49 (dk_at dksX34_clear_1 16 rfl rfl)
theorem dX34_clear_43 : decode cX34_clear 43 = .ok (.iload 4, 2) := dk_21 4 (dk_at dksX34_clear_1 19 rfl rfl)
theorem dX34_clear_45 : decode cX34_clear 45 = .ok (.aload_n 2, 1) := dk_44 (dk_at dksX34_clear_1 21 rfl rfl)
theorem dX34_clear_46 : decode cX34_clear 46 = .ok (.ifnonnull 7, 3) := dk_199 0 7 (dk_at dksX34_clear_2 0 rfl rfl)
theorem dX34_clear_49 : decode cX34_clear 49 = .ok (.lconst 0, 1) := dk_9 (dk_at dksX34_clear_2 3 rfl rfl)
theorem dX34_clear_50 : decode cX34_clear 50 = .ok (.goto 7, 3) := dk_167 0 7 (dk_at dksX34_clear_2 4 rfl rfl)
theorem dX34_clear_53 : decode cX34_clear 53 = .ok (.aload_n 2, 1) := dk_44 (dk_at dksX34_clear_2 7 rfl rfl)
theorem dX34_clear_54 : decode cX34_clear 54 = .ok (.iload 4, 2) := dk_21 4 (dk_at dksX34_clear_2 8 rfl rfl)
theorem dX34_clear_56 : decode cX34_clear 56 = .ok (.laload, 1) := dk_47 (dk_at dksX34_clear_2 10 rfl rfl)
theorem dX34_clear_57 : decode cX34_clear 57 = .ok (.lastore, 1) := dk_80 (dk_at dksX34_clear_2 11 rfl rfl)
theorem dX34_clear_58 : decode cX34_clear 58 = .ok (.iload_n 3, 1) := dk_29 (dk_at dksX34_clear_2 12 rfl rfl)
theorem dX34_clear_59 : decode cX34_clear 59 = .ok (.aload_n 0, 1) := dk_42 (dk_at dksX34_clear_2 13 rfl rfl)
theorem dX34_clear_60 : decode cX34_clear 60 = .ok (.getfield 49, 3) := dk_180 0 49 (dk_at dksX34_clear_2 14 rfl rfl)
theorem dX34_clear_63 : decode cX34_clear 63 = .ok (.iload 4, 2) := dk_21 4 (dk_at dksX34_clear_2 17 rfl rfl)
theorem dX34_clear_65 : decode cX34_clear 65 = .ok (.laload, 1) := dk_47 (dk_at dksX34_clear_2 19 rfl rfl)
theorem dX34_clear_66 : decode cX34_clear 66 = .ok (.lconst 0, 1) := dk_9 (dk_at dksX34_clear_2 20 rfl rfl)
theorem dX34_clear_67 : decode cX34_clear 67 = .ok (.lcmp, 1) := dk_148 (dk_at dksX34_clear_2 21 rfl rfl)
theorem dX34_clear_68 : decode cX34_clear 68 = .ok (.ifCond .eq 7, 3) := dk_153 0 7 (dk_at dksX34_clear_3 0 rfl rfl)
theorem dX34_clear_71 : decode cX34_clear 71 = .ok (.iconst 1, 1) := dk_4 (dk_at dksX34_clear_3 3 rfl rfl)
theorem dX34_clear_72 : decode cX34_clear 72 = .ok (.goto 4, 3) := dk_167 0 4 (dk_at dksX34_clear_3 4 rfl rfl)
theorem dX34_clear_75 : decode cX34_clear 75 = .ok (.iconst 0, 1) := dk_3 (dk_at dksX34_clear_3 7 rfl rfl)
theorem dX34_clear_76 : decode cX34_clear 76 = .ok (.iadd, 1) := dk_96 (dk_at dksX34_clear_3 8 rfl rfl)
theorem dX34_clear_77 : decode cX34_clear 77 = .ok (.istore_n 3, 1) := dk_62 (dk_at dksX34_clear_3 9 rfl rfl)
theorem dX34_clear_78 : decode cX34_clear 78 = .ok (.iinc 4 1, 3) := dk_132 4 1 (dk_at dksX34_clear_3 10 rfl rfl)
theorem dX34_clear_81 : decode cX34_clear 81 = .ok (.goto (-48), 3) := dk_167 255 208 (dk_at dksX34_clear_3 13 rfl rfl)
theorem dX34_clear_84 : decode cX34_clear 84 = .ok (.iload_n 3, 1) := dk_29 (dk_at dksX34_clear_3 16 rfl rfl)
theorem dX34_clear_85 : decode cX34_clear 85 = .ok (.ireturn, 1) := dk_172 (dk_at dksX34_clear_3 17 rfl rfl)
abbrev cX34_cleared : ByteArray := prog_9_method_25_code
def yX34_cleared : MethodName := ⟨RX34, "cleared", "(I)J"⟩
def dkwX34_cleared_0 : List UInt8 := [27, 155, 0, 8, 27, 6, 161, 0, 7, 9, 167, 0, 9, 42, 180, 0, 49, 27, 47, 173]
abbrev dktX34_cleared_0 : List UInt8 := dkwX34_cleared_0 ++ []
theorem dksX34_cleared_0 : cX34_cleared.data.toList.drop 0 = dktX34_cleared_0 := by decide +kernel
theorem dX34_cleared_0 : decode cX34_cleared 0 = .ok (.iload_n 1, 1) := dk_27 (dk_at dksX34_cleared_0 0 rfl rfl)
theorem dX34_cleared_1 : decode cX34_cleared 1 = .ok (.ifCond .lt 8, 3) := dk_155 0 8 (dk_at dksX34_cleared_0 1 rfl rfl)
theorem dX34_cleared_4 : decode cX34_cleared 4 = .ok (.iload_n 1, 1) := dk_27 (dk_at dksX34_cleared_0 4 rfl rfl)
theorem dX34_cleared_5 : decode cX34_cleared 5 = .ok (.iconst 3, 1) := dk_6 (dk_at dksX34_cleared_0 5 rfl rfl)
theorem dX34_cleared_6 : decode cX34_cleared 6 = .ok (.if_icmp .lt 7, 3) := dk_161 0 7 (dk_at dksX34_cleared_0 6 rfl rfl)
theorem dX34_cleared_9 : decode cX34_cleared 9 = .ok (.lconst 0, 1) := dk_9 (dk_at dksX34_cleared_0 9 rfl rfl)
theorem dX34_cleared_10 : decode cX34_cleared 10 = .ok (.goto 9, 3) := dk_167 0 9 (dk_at dksX34_cleared_0 10 rfl rfl)
theorem dX34_cleared_13 : decode cX34_cleared 13 = .ok (.aload_n 0, 1) := dk_42 (dk_at dksX34_cleared_0 13 rfl rfl)
theorem dX34_cleared_14 : decode cX34_cleared 14 = .ok (.getfield 49, 3) := dk_180 0 49 (dk_at dksX34_cleared_0 14 rfl rfl)
theorem dX34_cleared_17 : decode cX34_cleared 17 = .ok (.iload_n 1, 1) := dk_27 (dk_at dksX34_cleared_0 17 rfl rfl)
theorem dX34_cleared_18 : decode cX34_cleared 18 = .ok (.laload, 1) := dk_47 (dk_at dksX34_cleared_0 18 rfl rfl)
theorem dX34_cleared_19 : decode cX34_cleared 19 = .ok (.lreturn, 1) := dk_173 (dk_at dksX34_cleared_0 19 rfl rfl)
abbrev cX34_fraud : ByteArray := prog_9_method_26_code
def yX34_fraud : MethodName := ⟨RX34, "fraud", "(I)I"⟩
def dkwX34_fraud_2 : List UInt8 := [167, 255, 223, 2, 172]
abbrev dktX34_fraud_2 : List UInt8 := dkwX34_fraud_2 ++ []
def dkwX34_fraud_1 : List UInt8 := [185, 0, 218, 1, 0, 192, 0, 165, 182, 0, 167, 54, 4, 28, 132, 2, 255, 154, 0, 6, 21, 4, 172]
abbrev dktX34_fraud_1 : List UInt8 := dkwX34_fraud_1 ++ dktX34_fraud_2
def dkwX34_fraud_0 : List UInt8 := [27, 61, 42, 180, 0, 42, 182, 1, 6, 78, 45, 185, 0, 212, 1, 0, 153, 0, 30, 45]
abbrev dktX34_fraud_0 : List UInt8 := dkwX34_fraud_0 ++ dktX34_fraud_1
theorem dksX34_fraud_0 : cX34_fraud.data.toList.drop 0 = dktX34_fraud_0 := by decide +kernel
theorem dksX34_fraud_1 : cX34_fraud.data.toList.drop 20 = dktX34_fraud_1 := dk_seg dksX34_fraud_0 20 rfl rfl
theorem dksX34_fraud_2 : cX34_fraud.data.toList.drop 43 = dktX34_fraud_2 := dk_seg dksX34_fraud_1 23 rfl rfl
theorem dX34_fraud_0 : decode cX34_fraud 0 = .ok (.iload_n 1, 1) := dk_27 (dk_at dksX34_fraud_0 0 rfl rfl)
theorem dX34_fraud_1 : decode cX34_fraud 1 = .ok (.istore_n 2, 1) := dk_61 (dk_at dksX34_fraud_0 1 rfl rfl)
theorem dX34_fraud_2 : decode cX34_fraud 2 = .ok (.aload_n 0, 1) := dk_42 (dk_at dksX34_fraud_0 2 rfl rfl)
theorem dX34_fraud_3 : decode cX34_fraud 3 = .ok (.getfield 42, 3) := dk_180 0 42 (dk_at dksX34_fraud_0 3 rfl rfl)
theorem dX34_fraud_6 : decode cX34_fraud 6 = .ok (.invokevirtual 262, 3) := dk_182 1 6 (dk_at dksX34_fraud_0 6 rfl rfl)
theorem dX34_fraud_9 : decode cX34_fraud 9 = .ok (.astore_n 3, 1) := dk_78 (dk_at dksX34_fraud_0 9 rfl rfl)
theorem dX34_fraud_10 : decode cX34_fraud 10 = .ok (.aload_n 3, 1) := dk_45 (dk_at dksX34_fraud_0 10 rfl rfl)
theorem dX34_fraud_11 : decode cX34_fraud 11 = .ok (.invokeinterface 212 1, 5) := by decide +kernel
theorem dX34_fraud_16 : decode cX34_fraud 16 = .ok (.ifCond .eq 30, 3) := dk_153 0 30 (dk_at dksX34_fraud_0 16 rfl rfl)
theorem dX34_fraud_19 : decode cX34_fraud 19 = .ok (.aload_n 3, 1) := dk_45 (dk_at dksX34_fraud_0 19 rfl rfl)
theorem dX34_fraud_20 : decode cX34_fraud 20 = .ok (.invokeinterface 218 1, 5) := by decide +kernel
theorem dX34_fraud_25 : decode cX34_fraud 25 = .ok (.checkcast 165, 3) := dk_192 0 165 (dk_at dksX34_fraud_1 5 rfl rfl)
theorem dX34_fraud_28 : decode cX34_fraud 28 = .ok (.invokevirtual 167, 3) := dk_182 0 167 (dk_at dksX34_fraud_1 8 rfl rfl)
theorem dX34_fraud_31 : decode cX34_fraud 31 = .ok (.istore 4, 2) := dk_54 4 (dk_at dksX34_fraud_1 11 rfl rfl)
theorem dX34_fraud_33 : decode cX34_fraud 33 = .ok (.iload_n 2, 1) := dk_28 (dk_at dksX34_fraud_1 13 rfl rfl)
theorem dX34_fraud_34 : decode cX34_fraud 34 = .ok (.iinc 2 (-1), 3) := dk_132 2 255 (dk_at dksX34_fraud_1 14 rfl rfl)
theorem dX34_fraud_37 : decode cX34_fraud 37 = .ok (.ifCond .ne 6, 3) := dk_154 0 6 (dk_at dksX34_fraud_1 17 rfl rfl)
theorem dX34_fraud_40 : decode cX34_fraud 40 = .ok (.iload 4, 2) := dk_21 4 (dk_at dksX34_fraud_1 20 rfl rfl)
theorem dX34_fraud_42 : decode cX34_fraud 42 = .ok (.ireturn, 1) := dk_172 (dk_at dksX34_fraud_1 22 rfl rfl)
theorem dX34_fraud_43 : decode cX34_fraud 43 = .ok (.goto (-33), 3) := dk_167 255 223 (dk_at dksX34_fraud_2 0 rfl rfl)
theorem dX34_fraud_46 : decode cX34_fraud 46 = .ok (.iconst (-1), 1) := dk_2 (dk_at dksX34_fraud_2 3 rfl rfl)
theorem dX34_fraud_47 : decode cX34_fraud 47 = .ok (.ireturn, 1) := dk_172 (dk_at dksX34_fraud_2 4 rfl rfl)
theorem q433 : (Jvm.Cond.initialized "WasteHouse$DepositCodes") ∈ lw_all := lw_g (lw_at lw_m1 41 rfl) rfl
theorem q1762 : (Jvm.Cond.instantiable "WasteHouse$DepositCodes" (13 : Nat)) ∈ lw_all := lw_g (lw_at lw_m6 170 rfl) rfl
theorem q1764 : (Jvm.Cond.instanceMethod ({ cls := "WasteHouse$DepositCodes", name := "<init>", desc := "()V" } : Jvm.MethodName)) ∈ lw_all := lw_g (lw_at lw_m6 172 rfl) rfl
theorem q1765 : (Jvm.Cond.code ({ cls := "WasteHouse$DepositCodes", name := "<init>", desc := "()V" } : Jvm.MethodName) prog_9_method_1_code (1 : Nat) (Option.none : Option Jvm.ClassFile.FieldType)) ∈ lw_all := lw_g (lw_at lw_m6 173 rfl) rfl
theorem q1766 : (Jvm.Cond.methodLink "WasteHouse$DepositCodes" (1 : Nat) ({ cls := "java/lang/Object", name := "<init>", desc := "()V" } : Jvm.MethodName)) ∈ lw_all := lw_g (lw_at lw_m6 174 rfl) rfl
theorem q1767 : (Jvm.Cond.classLink "WasteHouse$DepositCodes" (7 : Nat) "WasteHouse$DepositCodes$Bars") ∈ lw_all := lw_g (lw_at lw_m6 175 rfl) rfl
theorem q1769 : (Jvm.Cond.methodLinkNest "WasteHouse$DepositCodes" (9 : Nat) ({ cls := "WasteHouse$DepositCodes$Bars", name := "<init>", desc := "()V" } : Jvm.MethodName) "WasteHouse") ∈ lw_tbl := lw_at lw_m6 177 rfl
theorem q1789 : (Jvm.Cond.classLink "WasteHouse$DepositCodes" (16 : Nat) "java/util/ArrayList") ∈ lw_all := lw_g (lw_at lw_m6 197 rfl) rfl
theorem q1790 : (Jvm.Cond.methodLink "WasteHouse$DepositCodes" (18 : Nat) ({ cls := "java/util/ArrayList", name := "<init>", desc := "()V" } : Jvm.MethodName)) ∈ lw_all := lw_g (lw_at lw_m6 198 rfl) rfl
theorem q1791 : (Jvm.Cond.classLink "WasteHouse$DepositCodes" (23 : Nat) "WasteHouse$DepositCodes$Span") ∈ lw_all := lw_g (lw_at lw_m6 199 rfl) rfl
theorem q1793 : (Jvm.Cond.classLink "WasteHouse$DepositCodes" (32 : Nat) "java/util/TreeMap") ∈ lw_all := lw_g (lw_at lw_m6 201 rfl) rfl
theorem q1794 : (Jvm.Cond.methodLink "WasteHouse$DepositCodes" (34 : Nat) ({ cls := "java/util/TreeMap", name := "<init>", desc := "()V" } : Jvm.MethodName)) ∈ lw_all := lw_g (lw_at lw_m6 202 rfl) rfl
theorem q1795 : (Jvm.Cond.classLink "WasteHouse$DepositCodes" (39 : Nat) "java/util/ArrayDeque") ∈ lw_all := lw_g (lw_at lw_m6 203 rfl) rfl
theorem q1797 : (Jvm.Cond.methodLink "WasteHouse$DepositCodes" (41 : Nat) ({ cls := "java/util/ArrayDeque", name := "<init>", desc := "()V" } : Jvm.MethodName)) ∈ lw_all := lw_g (lw_at lw_m6 205 rfl) rfl
theorem q1815 : (Jvm.Cond.classLink "WasteHouse$DepositCodes" (56 : Nat) "java/util/HashSet") ∈ lw_all := lw_g (lw_at lw_m6 223 rfl) rfl
theorem q1817 : (Jvm.Cond.methodLink "WasteHouse$DepositCodes" (58 : Nat) ({ cls := "java/util/HashSet", name := "<init>", desc := "()V" } : Jvm.MethodName)) ∈ lw_all := lw_g (lw_at lw_m6 225 rfl) rfl
theorem q1858 : (Jvm.Cond.fieldLink "WasteHouse$DepositCodes" (10 : Nat) "WasteHouse$DepositCodes" "bars" "LWasteHouse$DepositCodes$Bars;") ∈ lw_all := lw_g (lw_at lw_m7 26 rfl) rfl
theorem q1859 : (Jvm.Cond.fieldLink "WasteHouse$DepositCodes" (19 : Nat) "WasteHouse$DepositCodes" "machines" "Ljava/util/ArrayList;") ∈ lw_all := lw_g (lw_at lw_m7 27 rfl) rfl
theorem q1860 : (Jvm.Cond.fieldLink "WasteHouse$DepositCodes" (25 : Nat) "WasteHouse$DepositCodes" "spans" "[LWasteHouse$DepositCodes$Span;") ∈ lw_all := lw_g (lw_at lw_m7 28 rfl) rfl
theorem q1861 : (Jvm.Cond.fieldLink "WasteHouse$DepositCodes" (29 : Nat) "WasteHouse$DepositCodes" "doubles" "Ljava/util/ArrayList;") ∈ lw_all := lw_g (lw_at lw_m7 29 rfl) rfl
theorem q1862 : (Jvm.Cond.fieldLink "WasteHouse$DepositCodes" (35 : Nat) "WasteHouse$DepositCodes" "refusals" "Ljava/util/TreeMap;") ∈ lw_all := lw_g (lw_at lw_m7 30 rfl) rfl
theorem q1863 : (Jvm.Cond.fieldLink "WasteHouse$DepositCodes" (42 : Nat) "WasteHouse$DepositCodes" "frauds" "Ljava/util/ArrayDeque;") ∈ lw_all := lw_g (lw_at lw_m7 31 rfl) rfl
theorem q1864 : (Jvm.Cond.fieldLink "WasteHouse$DepositCodes" (46 : Nat) "WasteHouse$DepositCodes" "months" "Ljava/util/TreeMap;") ∈ lw_all := lw_g (lw_at lw_m7 32 rfl) rfl
theorem q1865 : (Jvm.Cond.fieldLink "WasteHouse$DepositCodes" (49 : Nat) "WasteHouse$DepositCodes" "shown" "[J") ∈ lw_all := lw_g (lw_at lw_m7 33 rfl) rfl
theorem q1866 : (Jvm.Cond.fieldLink "WasteHouse$DepositCodes" (53 : Nat) "WasteHouse$DepositCodes" "coupons" "Ljava/util/ArrayList;") ∈ lw_all := lw_g (lw_at lw_m7 34 rfl) rfl
theorem q1867 : (Jvm.Cond.fieldLink "WasteHouse$DepositCodes" (59 : Nat) "WasteHouse$DepositCodes" "redeemed" "Ljava/util/HashSet;") ∈ lw_all := lw_g (lw_at lw_m7 35 rfl) rfl
theorem q1868 : (Jvm.Cond.fieldLink "WasteHouse$DepositCodes" (63 : Nat) "WasteHouse$DepositCodes" "shops" "[J") ∈ lw_all := lw_g (lw_at lw_m7 36 rfl) rfl
theorem q1869 : (Jvm.Cond.fieldLink "WasteHouse$DepositCodes" (145 : Nat) "WasteHouse$DepositCodes" "paid" "I") ∈ lw_all := lw_g (lw_at lw_m7 37 rfl) rfl
theorem q1870 : (Jvm.Cond.fieldLink "WasteHouse$DepositCodes" (153 : Nat) "WasteHouse$DepositCodes" "reason" "I") ∈ lw_all := lw_g (lw_at lw_m7 38 rfl) rfl
theorem q1871 : (Jvm.Cond.laysFinal "WasteHouse$DepositCodes" "WasteHouse$DepositCodes" "bars" "LWasteHouse$DepositCodes$Bars;") ∈ lw_all := lw_g (lw_at lw_m7 39 rfl) rfl
theorem q1872 : (Jvm.Cond.soleField "WasteHouse$DepositCodes" "bars") ∈ lw_all := lw_g (lw_at lw_m7 40 rfl) rfl
theorem q1873 : (Jvm.Cond.laysFinal "WasteHouse$DepositCodes" "WasteHouse$DepositCodes" "machines" "Ljava/util/ArrayList;") ∈ lw_all := lw_g (lw_at lw_m7 41 rfl) rfl
theorem q1874 : (Jvm.Cond.soleField "WasteHouse$DepositCodes" "machines") ∈ lw_all := lw_g (lw_at lw_m7 42 rfl) rfl
theorem q1875 : (Jvm.Cond.laysFinal "WasteHouse$DepositCodes" "WasteHouse$DepositCodes" "spans" "[LWasteHouse$DepositCodes$Span;") ∈ lw_all := lw_g (lw_at lw_m7 43 rfl) rfl
theorem q1876 : (Jvm.Cond.soleField "WasteHouse$DepositCodes" "spans") ∈ lw_all := lw_g (lw_at lw_m7 44 rfl) rfl
theorem q1877 : (Jvm.Cond.laysFinal "WasteHouse$DepositCodes" "WasteHouse$DepositCodes" "doubles" "Ljava/util/ArrayList;") ∈ lw_all := lw_g (lw_at lw_m7 45 rfl) rfl
theorem q1878 : (Jvm.Cond.soleField "WasteHouse$DepositCodes" "doubles") ∈ lw_all := lw_g (lw_at lw_m7 46 rfl) rfl
theorem q1879 : (Jvm.Cond.laysFinal "WasteHouse$DepositCodes" "WasteHouse$DepositCodes" "refusals" "Ljava/util/TreeMap;") ∈ lw_all := lw_g (lw_at lw_m7 47 rfl) rfl
theorem q1880 : (Jvm.Cond.soleField "WasteHouse$DepositCodes" "refusals") ∈ lw_all := lw_g (lw_at lw_m7 48 rfl) rfl
theorem q1881 : (Jvm.Cond.laysFinal "WasteHouse$DepositCodes" "WasteHouse$DepositCodes" "frauds" "Ljava/util/ArrayDeque;") ∈ lw_all := lw_g (lw_at lw_m7 49 rfl) rfl
theorem q1882 : (Jvm.Cond.soleField "WasteHouse$DepositCodes" "frauds") ∈ lw_all := lw_g (lw_at lw_m7 50 rfl) rfl
theorem q1883 : (Jvm.Cond.laysFinal "WasteHouse$DepositCodes" "WasteHouse$DepositCodes" "months" "Ljava/util/TreeMap;") ∈ lw_all := lw_g (lw_at lw_m7 51 rfl) rfl
theorem q1884 : (Jvm.Cond.soleField "WasteHouse$DepositCodes" "months") ∈ lw_all := lw_g (lw_at lw_m7 52 rfl) rfl
theorem q1885 : (Jvm.Cond.laysFinal "WasteHouse$DepositCodes" "WasteHouse$DepositCodes" "shown" "[J") ∈ lw_all := lw_g (lw_at lw_m7 53 rfl) rfl
theorem q1886 : (Jvm.Cond.soleField "WasteHouse$DepositCodes" "shown") ∈ lw_all := lw_g (lw_at lw_m7 54 rfl) rfl
theorem q1887 : (Jvm.Cond.laysFinal "WasteHouse$DepositCodes" "WasteHouse$DepositCodes" "coupons" "Ljava/util/ArrayList;") ∈ lw_all := lw_g (lw_at lw_m7 55 rfl) rfl
theorem q1888 : (Jvm.Cond.soleField "WasteHouse$DepositCodes" "coupons") ∈ lw_all := lw_g (lw_at lw_m7 56 rfl) rfl
theorem q1889 : (Jvm.Cond.laysFinal "WasteHouse$DepositCodes" "WasteHouse$DepositCodes" "redeemed" "Ljava/util/HashSet;") ∈ lw_all := lw_g (lw_at lw_m7 57 rfl) rfl
theorem q1890 : (Jvm.Cond.soleField "WasteHouse$DepositCodes" "redeemed") ∈ lw_all := lw_g (lw_at lw_m7 58 rfl) rfl
theorem q1891 : (Jvm.Cond.laysFinal "WasteHouse$DepositCodes" "WasteHouse$DepositCodes" "shops" "[J") ∈ lw_all := lw_g (lw_at lw_m7 59 rfl) rfl
theorem q1892 : (Jvm.Cond.soleField "WasteHouse$DepositCodes" "shops") ∈ lw_all := lw_g (lw_at lw_m7 60 rfl) rfl
theorem q1893 : (Jvm.Cond.lays "WasteHouse$DepositCodes" "WasteHouse$DepositCodes" "paid" "I") ∈ lw_all := lw_g (lw_at lw_m7 61 rfl) rfl
theorem q1894 : (Jvm.Cond.soleField "WasteHouse$DepositCodes" "paid") ∈ lw_all := lw_g (lw_at lw_m7 62 rfl) rfl
theorem q1895 : (Jvm.Cond.lays "WasteHouse$DepositCodes" "WasteHouse$DepositCodes" "reason" "I") ∈ lw_all := lw_g (lw_at lw_m7 63 rfl) rfl
theorem q1896 : (Jvm.Cond.soleField "WasteHouse$DepositCodes" "reason") ∈ lw_all := lw_g (lw_at lw_m7 64 rfl) rfl
theorem q1897 : (Jvm.Cond.superclass "WasteHouse$DepositCodes" "java/lang/Object") ∈ lw_all := lw_g (lw_at lw_m7 65 rfl) rfl
theorem q1980 : (Jvm.Cond.selects "WasteHouse$DepositCodes" ({ cls := "java/lang/Object", name := "getClass", desc := "()Ljava/lang/Class;" } : Jvm.MethodName) ({ cls := "java/lang/Object", name := "getClass", desc := "()Ljava/lang/Class;" } : Jvm.MethodName)) ∈ lw_all := lw_g (lw_at lw_m7 148 rfl) rfl
theorem q3088 : (Jvm.Cond.selects "WasteHouse$DepositCodes" ({ cls := "java/lang/Object", name := "equals", desc := "(Ljava/lang/Object;)Z" } : Jvm.MethodName) ({ cls := "java/lang/Object", name := "equals", desc := "(Ljava/lang/Object;)Z" } : Jvm.MethodName)) ∈ lw_all := lw_g (lw_at lw_m12 56 rfl) rfl
theorem q3456 : (Jvm.Cond.instanceMethod ({ cls := "WasteHouse$DepositCodes", name := "width", desc := "(II)Z" } : Jvm.MethodName)) ∈ lw_all := lw_g (lw_at lw_m13 184 rfl) rfl
theorem q3457 : (Jvm.Cond.selects "WasteHouse$DepositCodes" ({ cls := "WasteHouse$DepositCodes", name := "width", desc := "(II)Z" } : Jvm.MethodName) ({ cls := "WasteHouse$DepositCodes", name := "width", desc := "(II)Z" } : Jvm.MethodName)) ∈ lw_all := lw_g (lw_at lw_m13 185 rfl) rfl
theorem q3458 : (Jvm.Cond.code ({ cls := "WasteHouse$DepositCodes", name := "width", desc := "(II)Z" } : Jvm.MethodName) prog_9_method_3_code (3 : Nat) (Option.some Jvm.ClassFile.FieldType.boolean)) ∈ lw_all := lw_g (lw_at lw_m13 186 rfl) rfl
theorem q3459 : (Jvm.Cond.methodLink "WasteHouse$DepositCodes" (70 : Nat) ({ cls := "WasteHouse$DepositCodes$Bars", name := "set", desc := "(II)V" } : Jvm.MethodName)) ∈ lw_all := lw_g (lw_at lw_m13 187 rfl) rfl
theorem q3466 : (Jvm.Cond.instanceMethod ({ cls := "WasteHouse$DepositCodes", name := "read", desc := "()I" } : Jvm.MethodName)) ∈ lw_all := lw_g (lw_at lw_m13 194 rfl) rfl
theorem q3467 : (Jvm.Cond.selects "WasteHouse$DepositCodes" ({ cls := "WasteHouse$DepositCodes", name := "read", desc := "()I" } : Jvm.MethodName) ({ cls := "WasteHouse$DepositCodes", name := "read", desc := "()I" } : Jvm.MethodName)) ∈ lw_all := lw_g (lw_at lw_m13 195 rfl) rfl
theorem q3468 : (Jvm.Cond.code ({ cls := "WasteHouse$DepositCodes", name := "read", desc := "()I" } : Jvm.MethodName) prog_9_method_4_code (1 : Nat) (Option.some Jvm.ClassFile.FieldType.int)) ∈ lw_all := lw_g (lw_at lw_m13 196 rfl) rfl
theorem q3469 : (Jvm.Cond.methodLink "WasteHouse$DepositCodes" (74 : Nat) ({ cls := "WasteHouse$DepositCodes$Bars", name := "read", desc := "(Z)I" } : Jvm.MethodName)) ∈ lw_all := lw_g (lw_at lw_m13 197 rfl) rfl
theorem q3494 : (Jvm.Cond.instanceMethod ({ cls := "WasteHouse$DepositCodes", name := "back", desc := "()I" } : Jvm.MethodName)) ∈ lw_all := lw_g (lw_at lw_m13 222 rfl) rfl
theorem q3495 : (Jvm.Cond.selects "WasteHouse$DepositCodes" ({ cls := "WasteHouse$DepositCodes", name := "back", desc := "()I" } : Jvm.MethodName) ({ cls := "WasteHouse$DepositCodes", name := "back", desc := "()I" } : Jvm.MethodName)) ∈ lw_all := lw_g (lw_at lw_m13 223 rfl) rfl
theorem q3496 : (Jvm.Cond.code ({ cls := "WasteHouse$DepositCodes", name := "back", desc := "()I" } : Jvm.MethodName) prog_9_method_5_code (1 : Nat) (Option.some Jvm.ClassFile.FieldType.int)) ∈ lw_all := lw_g (lw_at lw_m13 224 rfl) rfl
theorem q3498 : (Jvm.Cond.instanceMethod ({ cls := "WasteHouse$DepositCodes", name := "digit", desc := "(I)I" } : Jvm.MethodName)) ∈ lw_all := lw_g (lw_at lw_m13 226 rfl) rfl
theorem q3499 : (Jvm.Cond.selects "WasteHouse$DepositCodes" ({ cls := "WasteHouse$DepositCodes", name := "digit", desc := "(I)I" } : Jvm.MethodName) ({ cls := "WasteHouse$DepositCodes", name := "digit", desc := "(I)I" } : Jvm.MethodName)) ∈ lw_all := lw_g (lw_at lw_m13 227 rfl) rfl
theorem q3500 : (Jvm.Cond.code ({ cls := "WasteHouse$DepositCodes", name := "digit", desc := "(I)I" } : Jvm.MethodName) prog_9_method_6_code (2 : Nat) (Option.some Jvm.ClassFile.FieldType.int)) ∈ lw_all := lw_g (lw_at lw_m13 228 rfl) rfl
theorem q3501 : (Jvm.Cond.methodLink "WasteHouse$DepositCodes" (78 : Nat) ({ cls := "WasteHouse$DepositCodes$Bars", name := "digitAt", desc := "(I)I" } : Jvm.MethodName)) ∈ lw_all := lw_g (lw_at lw_m13 229 rfl) rfl
theorem q3506 : (Jvm.Cond.instanceMethod ({ cls := "WasteHouse$DepositCodes", name := "check", desc := "(IJ)I" } : Jvm.MethodName)) ∈ lw_all := lw_g (lw_at lw_m13 234 rfl) rfl
theorem q3507 : (Jvm.Cond.selects "WasteHouse$DepositCodes" ({ cls := "WasteHouse$DepositCodes", name := "check", desc := "(IJ)I" } : Jvm.MethodName) ({ cls := "WasteHouse$DepositCodes", name := "check", desc := "(IJ)I" } : Jvm.MethodName)) ∈ lw_all := lw_g (lw_at lw_m13 235 rfl) rfl
theorem q3508 : (Jvm.Cond.code ({ cls := "WasteHouse$DepositCodes", name := "check", desc := "(IJ)I" } : Jvm.MethodName) prog_9_method_7_code (4 : Nat) (Option.some Jvm.ClassFile.FieldType.int)) ∈ lw_all := lw_g (lw_at lw_m13 236 rfl) rfl
theorem q3509 : (Jvm.Cond.methodLink "WasteHouse$DepositCodes" (82 : Nat) ({ cls := "WasteHouse$DepositCodes$Numbers", name := "is", desc := "(J)Z" } : Jvm.MethodName)) ∈ lw_all := lw_g (lw_at lw_m13 237 rfl) rfl
theorem q3513 : (Jvm.Cond.methodLink "WasteHouse$DepositCodes" (88 : Nat) ({ cls := "WasteHouse$DepositCodes$Numbers", name := "check", desc := "(IJ)I" } : Jvm.MethodName)) ∈ lw_all := lw_g (lw_at lw_m14 1 rfl) rfl
theorem q3518 : (Jvm.Cond.instanceMethod ({ cls := "WasteHouse$DepositCodes", name := "good", desc := "(IJ)Z" } : Jvm.MethodName)) ∈ lw_all := lw_g (lw_at lw_m14 6 rfl) rfl
theorem q3519 : (Jvm.Cond.selects "WasteHouse$DepositCodes" ({ cls := "WasteHouse$DepositCodes", name := "good", desc := "(IJ)Z" } : Jvm.MethodName) ({ cls := "WasteHouse$DepositCodes", name := "good", desc := "(IJ)Z" } : Jvm.MethodName)) ∈ lw_all := lw_g (lw_at lw_m14 7 rfl) rfl
theorem q3520 : (Jvm.Cond.code ({ cls := "WasteHouse$DepositCodes", name := "good", desc := "(IJ)Z" } : Jvm.MethodName) prog_9_method_8_code (4 : Nat) (Option.some Jvm.ClassFile.FieldType.boolean)) ∈ lw_all := lw_g (lw_at lw_m14 8 rfl) rfl
theorem q3521 : (Jvm.Cond.methodLink "WasteHouse$DepositCodes" (92 : Nat) ({ cls := "WasteHouse$DepositCodes$Numbers", name := "isGood", desc := "(IJ)Z" } : Jvm.MethodName)) ∈ lw_all := lw_g (lw_at lw_m14 9 rfl) rfl
theorem q3526 : (Jvm.Cond.instanceMethod ({ cls := "WasteHouse$DepositCodes", name := "machine", desc := "()I" } : Jvm.MethodName)) ∈ lw_all := lw_g (lw_at lw_m14 14 rfl) rfl
theorem q3527 : (Jvm.Cond.selects "WasteHouse$DepositCodes" ({ cls := "WasteHouse$DepositCodes", name := "machine", desc := "()I" } : Jvm.MethodName) ({ cls := "WasteHouse$DepositCodes", name := "machine", desc := "()I" } : Jvm.MethodName)) ∈ lw_all := lw_g (lw_at lw_m14 15 rfl) rfl
theorem q3528 : (Jvm.Cond.code ({ cls := "WasteHouse$DepositCodes", name := "machine", desc := "()I" } : Jvm.MethodName) prog_9_method_9_code (1 : Nat) (Option.some Jvm.ClassFile.FieldType.int)) ∈ lw_all := lw_g (lw_at lw_m14 16 rfl) rfl
theorem q3529 : (Jvm.Cond.methodLink "WasteHouse$DepositCodes" (66 : Nat) ({ cls := "java/util/ArrayList", name := "size", desc := "()I" } : Jvm.MethodName)) ∈ lw_all := lw_g (lw_at lw_m14 17 rfl) rfl
theorem q3533 : (Jvm.Cond.classLink "WasteHouse$DepositCodes" (96 : Nat) "WasteHouse$DepositCodes$Machine") ∈ lw_all := lw_g (lw_at lw_m14 21 rfl) rfl
theorem q3535 : (Jvm.Cond.methodLink "WasteHouse$DepositCodes" (98 : Nat) ({ cls := "WasteHouse$DepositCodes$Machine", name := "<init>", desc := "(I)V" } : Jvm.MethodName)) ∈ lw_all := lw_g (lw_at lw_m14 23 rfl) rfl
theorem q3550 : (Jvm.Cond.fieldLink "WasteHouse$DepositCodes" (129 : Nat) "WasteHouse$DepositCodes$PaidSet" "serials" "Ljava/util/TreeMap;") ∈ lw_all := lw_g (lw_at lw_m14 38 rfl) rfl
theorem q3553 : (Jvm.Cond.fieldLink "WasteHouse$DepositCodes" (242 : Nat) "WasteHouse$DepositCodes$PaidSet" "machines" "Ljava/util/HashSet;") ∈ lw_all := lw_g (lw_at lw_m14 41 rfl) rfl
theorem q3603 : (Jvm.Cond.selects "WasteHouse$DepositCodes" ({ cls := "java/lang/Object", name := "hashCode", desc := "()I" } : Jvm.MethodName) ({ cls := "java/lang/Object", name := "hashCode", desc := "()I" } : Jvm.MethodName)) ∈ lw_all := lw_g (lw_at lw_m14 91 rfl) rfl
theorem q4126 : (Jvm.Cond.fieldLink "WasteHouse$DepositCodes" (181 : Nat) "WasteHouse$DepositCodes$Machine" "number" "I") ∈ lw_all := lw_g (lw_at lw_m16 134 rfl) rfl
theorem q4128 : (Jvm.Cond.fieldLink "WasteHouse$DepositCodes" (126 : Nat) "WasteHouse$DepositCodes$Machine" "set" "LWasteHouse$DepositCodes$PaidSet;") ∈ lw_all := lw_g (lw_at lw_m16 136 rfl) rfl
theorem q4129 : (Jvm.Cond.fieldLink "WasteHouse$DepositCodes" (116 : Nat) "WasteHouse$DepositCodes$Machine" "isFull" "Z") ∈ lw_all := lw_g (lw_at lw_m16 137 rfl) rfl
theorem q4131 : (Jvm.Cond.fieldLink "WasteHouse$DepositCodes" (120 : Nat) "WasteHouse$DepositCodes$Machine" "hasPower" "Z") ∈ lw_all := lw_g (lw_at lw_m16 139 rfl) rfl
theorem q4133 : (Jvm.Cond.fieldLink "WasteHouse$DepositCodes" (184 : Nat) "WasteHouse$DepositCodes$Machine" "counts" "[I") ∈ lw_all := lw_g (lw_at lw_m16 141 rfl) rfl
theorem q4134 : (Jvm.Cond.fieldLink "WasteHouse$DepositCodes" (188 : Nat) "WasteHouse$DepositCodes$Machine" "open" "I") ∈ lw_all := lw_g (lw_at lw_m16 142 rfl) rfl
theorem q4148 : (Jvm.Cond.methodLink "WasteHouse$DepositCodes" (101 : Nat) ({ cls := "java/util/ArrayList", name := "add", desc := "(Ljava/lang/Object;)Z" } : Jvm.MethodName)) ∈ lw_all := lw_g (lw_at lw_m16 156 rfl) rfl
theorem q4150 : (Jvm.Cond.instanceMethod ({ cls := "WasteHouse$DepositCodes", name := "shape", desc := "(III)Z" } : Jvm.MethodName)) ∈ lw_all := lw_g (lw_at lw_m16 158 rfl) rfl
theorem q4151 : (Jvm.Cond.selects "WasteHouse$DepositCodes" ({ cls := "WasteHouse$DepositCodes", name := "shape", desc := "(III)Z" } : Jvm.MethodName) ({ cls := "WasteHouse$DepositCodes", name := "shape", desc := "(III)Z" } : Jvm.MethodName)) ∈ lw_all := lw_g (lw_at lw_m16 159 rfl) rfl
theorem q4152 : (Jvm.Cond.code ({ cls := "WasteHouse$DepositCodes", name := "shape", desc := "(III)Z" } : Jvm.MethodName) prog_9_method_10_code (4 : Nat) (Option.some Jvm.ClassFile.FieldType.boolean)) ∈ lw_all := lw_g (lw_at lw_m16 160 rfl) rfl
theorem q4153 : (Jvm.Cond.constant "WasteHouse$DepositCodes" (105 : Nat) (100000 : Int32)) ∈ lw_all := lw_g (lw_at lw_m16 161 rfl) rfl
theorem q4155 : (Jvm.Cond.methodLink "WasteHouse$DepositCodes" (106 : Nat) ({ cls := "WasteHouse$DepositCodes$Span", name := "<init>", desc := "(II)V" } : Jvm.MethodName)) ∈ lw_all := lw_g (lw_at lw_m16 163 rfl) rfl
theorem q4167 : (Jvm.Cond.instanceMethod ({ cls := "WasteHouse$DepositCodes", name := "full", desc := "(IZ)Z" } : Jvm.MethodName)) ∈ lw_all := lw_g (lw_at lw_m16 175 rfl) rfl
theorem q4168 : (Jvm.Cond.selects "WasteHouse$DepositCodes" ({ cls := "WasteHouse$DepositCodes", name := "full", desc := "(IZ)Z" } : Jvm.MethodName) ({ cls := "WasteHouse$DepositCodes", name := "full", desc := "(IZ)Z" } : Jvm.MethodName)) ∈ lw_all := lw_g (lw_at lw_m16 176 rfl) rfl
theorem q4169 : (Jvm.Cond.code ({ cls := "WasteHouse$DepositCodes", name := "full", desc := "(IZ)Z" } : Jvm.MethodName) prog_9_method_11_code (3 : Nat) (Option.some Jvm.ClassFile.FieldType.boolean)) ∈ lw_all := lw_g (lw_at lw_m16 177 rfl) rfl
theorem q4170 : (Jvm.Cond.methodLink "WasteHouse$DepositCodes" (108 : Nat) ({ cls := "WasteHouse$DepositCodes", name := "isMachine", desc := "(I)Z" } : Jvm.MethodName)) ∈ lw_all := lw_g (lw_at lw_m16 178 rfl) rfl
theorem q4171 : (Jvm.Cond.privateMethod ({ cls := "WasteHouse$DepositCodes", name := "isMachine", desc := "(I)Z" } : Jvm.MethodName)) ∈ lw_tbl := lw_at lw_m16 179 rfl
theorem q4172 : (Jvm.Cond.instanceMethod ({ cls := "WasteHouse$DepositCodes", name := "isMachine", desc := "(I)Z" } : Jvm.MethodName)) ∈ lw_all := lw_g (lw_at lw_m16 180 rfl) rfl
theorem q4173 : (Jvm.Cond.code ({ cls := "WasteHouse$DepositCodes", name := "isMachine", desc := "(I)Z" } : Jvm.MethodName) prog_9_method_2_code (2 : Nat) (Option.some Jvm.ClassFile.FieldType.boolean)) ∈ lw_all := lw_g (lw_at lw_m16 181 rfl) rfl
theorem q4174 : (Jvm.Cond.methodLink "WasteHouse$DepositCodes" (112 : Nat) ({ cls := "java/util/ArrayList", name := "get", desc := "(I)Ljava/lang/Object;" } : Jvm.MethodName)) ∈ lw_all := lw_g (lw_at lw_m16 182 rfl) rfl
theorem q4176 : (Jvm.Cond.instanceMethod ({ cls := "WasteHouse$DepositCodes", name := "power", desc := "(IZ)Z" } : Jvm.MethodName)) ∈ lw_all := lw_g (lw_at lw_m16 184 rfl) rfl
theorem q4177 : (Jvm.Cond.selects "WasteHouse$DepositCodes" ({ cls := "WasteHouse$DepositCodes", name := "power", desc := "(IZ)Z" } : Jvm.MethodName) ({ cls := "WasteHouse$DepositCodes", name := "power", desc := "(IZ)Z" } : Jvm.MethodName)) ∈ lw_all := lw_g (lw_at lw_m16 185 rfl) rfl
theorem q4178 : (Jvm.Cond.code ({ cls := "WasteHouse$DepositCodes", name := "power", desc := "(IZ)Z" } : Jvm.MethodName) prog_9_method_12_code (3 : Nat) (Option.some Jvm.ClassFile.FieldType.boolean)) ∈ lw_all := lw_g (lw_at lw_m16 186 rfl) rfl
theorem q4180 : (Jvm.Cond.instanceMethod ({ cls := "WasteHouse$DepositCodes", name := "give", desc := "(IJIIJ)I" } : Jvm.MethodName)) ∈ lw_all := lw_g (lw_at lw_m16 188 rfl) rfl
theorem q4181 : (Jvm.Cond.selects "WasteHouse$DepositCodes" ({ cls := "WasteHouse$DepositCodes", name := "give", desc := "(IJIIJ)I" } : Jvm.MethodName) ({ cls := "WasteHouse$DepositCodes", name := "give", desc := "(IJIIJ)I" } : Jvm.MethodName)) ∈ lw_all := lw_g (lw_at lw_m16 189 rfl) rfl
theorem q4182 : (Jvm.Cond.code ({ cls := "WasteHouse$DepositCodes", name := "give", desc := "(IJIIJ)I" } : Jvm.MethodName) prog_9_method_14_code (10 : Nat) (Option.some Jvm.ClassFile.FieldType.int)) ∈ lw_all := lw_g (lw_at lw_m16 190 rfl) rfl
theorem q4183 : (Jvm.Cond.constantLong "WasteHouse$DepositCodes" (143 : Nat) (100000000000 : Int64)) ∈ lw_all := lw_g (lw_at lw_m16 191 rfl) rfl
theorem q4184 : (Jvm.Cond.methodLink "WasteHouse$DepositCodes" (149 : Nat) ({ cls := "WasteHouse$DepositCodes", name := "reasonFor", desc := "(IJII)I" } : Jvm.MethodName)) ∈ lw_all := lw_g (lw_at lw_m16 192 rfl) rfl
theorem q4185 : (Jvm.Cond.privateMethod ({ cls := "WasteHouse$DepositCodes", name := "reasonFor", desc := "(IJII)I" } : Jvm.MethodName)) ∈ lw_tbl := lw_at lw_m16 193 rfl
theorem q4186 : (Jvm.Cond.instanceMethod ({ cls := "WasteHouse$DepositCodes", name := "reasonFor", desc := "(IJII)I" } : Jvm.MethodName)) ∈ lw_all := lw_g (lw_at lw_m16 194 rfl) rfl
theorem q4187 : (Jvm.Cond.code ({ cls := "WasteHouse$DepositCodes", name := "reasonFor", desc := "(IJII)I" } : Jvm.MethodName) prog_9_method_13_code (7 : Nat) (Option.some Jvm.ClassFile.FieldType.int)) ∈ lw_all := lw_g (lw_at lw_m16 195 rfl) rfl
theorem q4188 : (Jvm.Cond.methodLink "WasteHouse$DepositCodes" (123 : Nat) ({ cls := "WasteHouse$DepositCodes$Span", name := "has", desc := "(I)Z" } : Jvm.MethodName)) ∈ lw_all := lw_g (lw_at lw_m16 196 rfl) rfl
theorem q4192 : (Jvm.Cond.methodLink "WasteHouse$DepositCodes" (134 : Nat) ({ cls := "java/lang/Long", name := "valueOf", desc := "(J)Ljava/lang/Long;" } : Jvm.MethodName)) ∈ lw_all := lw_g (lw_at lw_m16 200 rfl) rfl
theorem q4208 : (Jvm.Cond.methodLink "WasteHouse$DepositCodes" (140 : Nat) ({ cls := "java/util/TreeMap", name := "containsKey", desc := "(Ljava/lang/Object;)Z" } : Jvm.MethodName)) ∈ lw_all := lw_g (lw_at lw_m16 216 rfl) rfl
theorem q4230 : (Jvm.Cond.constantLong "WasteHouse$DepositCodes" (156 : Nat) (2592000 : Int64)) ∈ lw_all := lw_g (lw_at lw_m16 238 rfl) rfl
theorem q4231 : (Jvm.Cond.methodLink "WasteHouse$DepositCodes" (158 : Nat) ({ cls := "WasteHouse$DepositCodes", name := "pay", desc := "(LWasteHouse$DepositCodes$Machine;JII)V" } : Jvm.MethodName)) ∈ lw_all := lw_g (lw_at lw_m16 239 rfl) rfl
theorem q4232 : (Jvm.Cond.privateMethod ({ cls := "WasteHouse$DepositCodes", name := "pay", desc := "(LWasteHouse$DepositCodes$Machine;JII)V" } : Jvm.MethodName)) ∈ lw_tbl := lw_at lw_m17 0 rfl
theorem q4233 : (Jvm.Cond.instanceMethod ({ cls := "WasteHouse$DepositCodes", name := "pay", desc := "(LWasteHouse$DepositCodes$Machine;JII)V" } : Jvm.MethodName)) ∈ lw_all := lw_g (lw_at lw_m17 1 rfl) rfl
theorem q4234 : (Jvm.Cond.code ({ cls := "WasteHouse$DepositCodes", name := "pay", desc := "(LWasteHouse$DepositCodes$Machine;JII)V" } : Jvm.MethodName) prog_9_method_15_code (7 : Nat) (Option.none : Option Jvm.ClassFile.FieldType)) ∈ lw_all := lw_g (lw_at lw_m17 2 rfl) rfl
theorem q4235 : (Jvm.Cond.methodLink "WasteHouse$DepositCodes" (170 : Nat) ({ cls := "java/lang/Integer", name := "valueOf", desc := "(I)Ljava/lang/Integer;" } : Jvm.MethodName)) ∈ lw_all := lw_g (lw_at lw_m17 3 rfl) rfl
theorem q4236 : (Jvm.Cond.methodLink "WasteHouse$DepositCodes" (173 : Nat) ({ cls := "java/util/TreeMap", name := "put", desc := "(Ljava/lang/Object;Ljava/lang/Object;)Ljava/lang/Object;" } : Jvm.MethodName)) ∈ lw_all := lw_g (lw_at lw_m17 4 rfl) rfl
theorem q4314 : (Jvm.Cond.methodLink "WasteHouse$DepositCodes" (162 : Nat) ({ cls := "java/util/TreeMap", name := "get", desc := "(Ljava/lang/Object;)Ljava/lang/Object;" } : Jvm.MethodName)) ∈ lw_all := lw_g (lw_at lw_m17 82 rfl) rfl
theorem q4318 : (Jvm.Cond.classLink "WasteHouse$DepositCodes" (191 : Nat) "[J") ∈ lw_all := lw_g (lw_at lw_m17 86 rfl) rfl
theorem q4319 : (Jvm.Cond.methodLink "WasteHouse$DepositCodes" (192 : Nat) ({ cls := "WasteHouse$DepositCodes$Machine", name := "system", desc := "()I" } : Jvm.MethodName)) ∈ lw_all := lw_g (lw_at lw_m17 87 rfl) rfl
theorem q4323 : (Jvm.Cond.constantLong "WasteHouse$DepositCodes" (195 : Nat) (25 : Int64)) ∈ lw_all := lw_g (lw_at lw_m17 91 rfl) rfl
theorem q4324 : (Jvm.Cond.methodLink "WasteHouse$DepositCodes" (197 : Nat) ({ cls := "WasteHouse$DepositCodes$Numbers", name := "system", desc := "(J)I" } : Jvm.MethodName)) ∈ lw_all := lw_g (lw_at lw_m17 92 rfl) rfl
theorem q4327 : (Jvm.Cond.classLink "WasteHouse$DepositCodes" (165 : Nat) "java/lang/Integer") ∈ lw_all := lw_g (lw_at lw_m17 95 rfl) rfl
theorem q4328 : (Jvm.Cond.methodLink "WasteHouse$DepositCodes" (167 : Nat) ({ cls := "java/lang/Integer", name := "intValue", desc := "()I" } : Jvm.MethodName)) ∈ lw_all := lw_g (lw_at lw_m17 96 rfl) rfl
theorem q4329 : (Jvm.Cond.methodLink "WasteHouse$DepositCodes" (177 : Nat) ({ cls := "java/util/ArrayDeque", name := "addLast", desc := "(Ljava/lang/Object;)V" } : Jvm.MethodName)) ∈ lw_all := lw_g (lw_at lw_m17 97 rfl) rfl
theorem q4363 : (Jvm.Cond.instanceMethod ({ cls := "WasteHouse$DepositCodes", name := "reason", desc := "()I" } : Jvm.MethodName)) ∈ lw_all := lw_g (lw_at lw_m17 131 rfl) rfl
theorem q4364 : (Jvm.Cond.selects "WasteHouse$DepositCodes" ({ cls := "WasteHouse$DepositCodes", name := "reason", desc := "()I" } : Jvm.MethodName) ({ cls := "WasteHouse$DepositCodes", name := "reason", desc := "()I" } : Jvm.MethodName)) ∈ lw_all := lw_g (lw_at lw_m17 132 rfl) rfl
theorem q4365 : (Jvm.Cond.code ({ cls := "WasteHouse$DepositCodes", name := "reason", desc := "()I" } : Jvm.MethodName) prog_9_method_16_code (1 : Nat) (Option.some Jvm.ClassFile.FieldType.int)) ∈ lw_all := lw_g (lw_at lw_m17 133 rfl) rfl
theorem q4367 : (Jvm.Cond.instanceMethod ({ cls := "WasteHouse$DepositCodes", name := "count", desc := "(II)J" } : Jvm.MethodName)) ∈ lw_all := lw_g (lw_at lw_m17 135 rfl) rfl
theorem q4368 : (Jvm.Cond.selects "WasteHouse$DepositCodes" ({ cls := "WasteHouse$DepositCodes", name := "count", desc := "(II)J" } : Jvm.MethodName) ({ cls := "WasteHouse$DepositCodes", name := "count", desc := "(II)J" } : Jvm.MethodName)) ∈ lw_all := lw_g (lw_at lw_m17 136 rfl) rfl
theorem q4369 : (Jvm.Cond.code ({ cls := "WasteHouse$DepositCodes", name := "count", desc := "(II)J" } : Jvm.MethodName) prog_9_method_17_code (3 : Nat) (Option.some Jvm.ClassFile.FieldType.long)) ∈ lw_all := lw_g (lw_at lw_m17 137 rfl) rfl
theorem q4370 : (Jvm.Cond.constantLong "WasteHouse$DepositCodes" (200 : Nat) (-1 : Int64)) ∈ lw_all := lw_g (lw_at lw_m17 138 rfl) rfl
theorem q4372 : (Jvm.Cond.instanceMethod ({ cls := "WasteHouse$DepositCodes", name := "join", desc := "(II)I" } : Jvm.MethodName)) ∈ lw_all := lw_g (lw_at lw_m17 140 rfl) rfl
theorem q4373 : (Jvm.Cond.selects "WasteHouse$DepositCodes" ({ cls := "WasteHouse$DepositCodes", name := "join", desc := "(II)I" } : Jvm.MethodName) ({ cls := "WasteHouse$DepositCodes", name := "join", desc := "(II)I" } : Jvm.MethodName)) ∈ lw_all := lw_g (lw_at lw_m17 141 rfl) rfl
theorem q4374 : (Jvm.Cond.code ({ cls := "WasteHouse$DepositCodes", name := "join", desc := "(II)I" } : Jvm.MethodName) prog_9_method_18_code (9 : Nat) (Option.some Jvm.ClassFile.FieldType.int)) ∈ lw_all := lw_g (lw_at lw_m17 142 rfl) rfl
theorem q4375 : (Jvm.Cond.methodLink "WasteHouse$DepositCodes" (202 : Nat) ({ cls := "java/util/TreeMap", name := "entrySet", desc := "()Ljava/util/Set;" } : Jvm.MethodName)) ∈ lw_all := lw_g (lw_at lw_m17 143 rfl) rfl
theorem q4389 : (Jvm.Cond.interfaceEntry "WasteHouse$DepositCodes" (206 : Nat)) ∈ lw_tbl := lw_at lw_m17 157 rfl
theorem q4390 : (Jvm.Cond.methodLink "WasteHouse$DepositCodes" (206 : Nat) ({ cls := "java/util/Set", name := "iterator", desc := "()Ljava/util/Iterator;" } : Jvm.MethodName)) ∈ lw_all := lw_g (lw_at lw_m17 158 rfl) rfl
theorem q4478 : (Jvm.Cond.interfaceEntry "WasteHouse$DepositCodes" (212 : Nat)) ∈ lw_tbl := lw_at lw_m18 6 rfl
theorem q4479 : (Jvm.Cond.methodLink "WasteHouse$DepositCodes" (212 : Nat) ({ cls := "java/util/Iterator", name := "hasNext", desc := "()Z" } : Jvm.MethodName)) ∈ lw_all := lw_g (lw_at lw_m18 7 rfl) rfl
theorem q4480 : (Jvm.Cond.interfaceEntry "WasteHouse$DepositCodes" (218 : Nat)) ∈ lw_tbl := lw_at lw_m18 8 rfl
theorem q4481 : (Jvm.Cond.methodLink "WasteHouse$DepositCodes" (218 : Nat) ({ cls := "java/util/Iterator", name := "next", desc := "()Ljava/lang/Object;" } : Jvm.MethodName)) ∈ lw_all := lw_g (lw_at lw_m18 9 rfl) rfl
theorem q4482 : (Jvm.Cond.classLink "WasteHouse$DepositCodes" (222 : Nat) "java/util/Map$Entry") ∈ lw_all := lw_g (lw_at lw_m18 10 rfl) rfl
theorem q4483 : (Jvm.Cond.interfaceEntry "WasteHouse$DepositCodes" (224 : Nat)) ∈ lw_tbl := lw_at lw_m18 11 rfl
theorem q4484 : (Jvm.Cond.methodLink "WasteHouse$DepositCodes" (224 : Nat) ({ cls := "java/util/Map$Entry", name := "getKey", desc := "()Ljava/lang/Object;" } : Jvm.MethodName)) ∈ lw_all := lw_g (lw_at lw_m18 12 rfl) rfl
theorem q4508 : (Jvm.Cond.classLink "WasteHouse$DepositCodes" (227 : Nat) "WasteHouse$DepositCodes$Twice") ∈ lw_all := lw_g (lw_at lw_m18 36 rfl) rfl
theorem q4510 : (Jvm.Cond.classLink "WasteHouse$DepositCodes" (135 : Nat) "java/lang/Long") ∈ lw_all := lw_g (lw_at lw_m18 38 rfl) rfl
theorem q4511 : (Jvm.Cond.methodLink "WasteHouse$DepositCodes" (229 : Nat) ({ cls := "java/lang/Long", name := "longValue", desc := "()J" } : Jvm.MethodName)) ∈ lw_all := lw_g (lw_at lw_m18 39 rfl) rfl
theorem q4512 : (Jvm.Cond.interfaceEntry "WasteHouse$DepositCodes" (233 : Nat)) ∈ lw_tbl := lw_at lw_m18 40 rfl
theorem q4513 : (Jvm.Cond.methodLink "WasteHouse$DepositCodes" (233 : Nat) ({ cls := "java/util/Map$Entry", name := "getValue", desc := "()Ljava/lang/Object;" } : Jvm.MethodName)) ∈ lw_all := lw_g (lw_at lw_m18 41 rfl) rfl
theorem q4533 : (Jvm.Cond.methodLink "WasteHouse$DepositCodes" (236 : Nat) ({ cls := "WasteHouse$DepositCodes$Twice", name := "<init>", desc := "(JII)V" } : Jvm.MethodName)) ∈ lw_all := lw_g (lw_at lw_m18 61 rfl) rfl
theorem q4547 : (Jvm.Cond.interfaceEntry "WasteHouse$DepositCodes" (239 : Nat)) ∈ lw_tbl := lw_at lw_m18 75 rfl
theorem q4548 : (Jvm.Cond.methodLink "WasteHouse$DepositCodes" (239 : Nat) ({ cls := "java/util/Iterator", name := "remove", desc := "()V" } : Jvm.MethodName)) ∈ lw_all := lw_g (lw_at lw_m18 76 rfl) rfl
theorem q4653 : (Jvm.Cond.methodLink "WasteHouse$DepositCodes" (244 : Nat) ({ cls := "java/util/HashSet", name := "addAll", desc := "(Ljava/util/Collection;)Z" } : Jvm.MethodName)) ∈ lw_all := lw_g (lw_at lw_m18 181 rfl) rfl
theorem q4718 : (Jvm.Cond.methodLink "WasteHouse$DepositCodes" (248 : Nat) ({ cls := "java/util/HashSet", name := "iterator", desc := "()Ljava/util/Iterator;" } : Jvm.MethodName)) ∈ lw_all := lw_g (lw_at lw_m19 6 rfl) rfl
theorem q4720 : (Jvm.Cond.instanceMethod ({ cls := "WasteHouse$DepositCodes", name := "double2", desc := "(II)I" } : Jvm.MethodName)) ∈ lw_all := lw_g (lw_at lw_m19 8 rfl) rfl
theorem q4721 : (Jvm.Cond.selects "WasteHouse$DepositCodes" ({ cls := "WasteHouse$DepositCodes", name := "double2", desc := "(II)I" } : Jvm.MethodName) ({ cls := "WasteHouse$DepositCodes", name := "double2", desc := "(II)I" } : Jvm.MethodName)) ∈ lw_all := lw_g (lw_at lw_m19 9 rfl) rfl
theorem q4722 : (Jvm.Cond.code ({ cls := "WasteHouse$DepositCodes", name := "double2", desc := "(II)I" } : Jvm.MethodName) prog_9_method_19_code (3 : Nat) (Option.some Jvm.ClassFile.FieldType.int)) ∈ lw_all := lw_g (lw_at lw_m19 10 rfl) rfl
theorem q4723 : (Jvm.Cond.methodLink "WasteHouse$DepositCodes" (249 : Nat) ({ cls := "WasteHouse$DepositCodes$Twice", name := "of", desc := "(I)I" } : Jvm.MethodName)) ∈ lw_all := lw_g (lw_at lw_m19 11 rfl) rfl
theorem q4737 : (Jvm.Cond.instanceMethod ({ cls := "WasteHouse$DepositCodes", name := "mark", desc := "(JJJ)Z" } : Jvm.MethodName)) ∈ lw_all := lw_g (lw_at lw_m19 25 rfl) rfl
theorem q4738 : (Jvm.Cond.selects "WasteHouse$DepositCodes" ({ cls := "WasteHouse$DepositCodes", name := "mark", desc := "(JJJ)Z" } : Jvm.MethodName) ({ cls := "WasteHouse$DepositCodes", name := "mark", desc := "(JJJ)Z" } : Jvm.MethodName)) ∈ lw_all := lw_g (lw_at lw_m19 26 rfl) rfl
theorem q4739 : (Jvm.Cond.code ({ cls := "WasteHouse$DepositCodes", name := "mark", desc := "(JJJ)Z" } : Jvm.MethodName) prog_9_method_20_code (11 : Nat) (Option.some Jvm.ClassFile.FieldType.boolean)) ∈ lw_all := lw_g (lw_at lw_m19 27 rfl) rfl
theorem q4740 : (Jvm.Cond.constantLong "WasteHouse$DepositCodes" (252 : Nat) (99991 : Int64)) ∈ lw_all := lw_g (lw_at lw_m19 28 rfl) rfl
theorem q4741 : (Jvm.Cond.constantLong "WasteHouse$DepositCodes" (254 : Nat) (7 : Int64)) ∈ lw_all := lw_g (lw_at lw_m19 29 rfl) rfl
theorem q4742 : (Jvm.Cond.constantLong "WasteHouse$DepositCodes" (256 : Nat) (13 : Int64)) ∈ lw_all := lw_g (lw_at lw_m19 30 rfl) rfl
theorem q4743 : (Jvm.Cond.constantLong "WasteHouse$DepositCodes" (258 : Nat) (10000 : Int64)) ∈ lw_all := lw_g (lw_at lw_m19 31 rfl) rfl
theorem q4745 : (Jvm.Cond.instanceMethod ({ cls := "WasteHouse$DepositCodes", name := "coupon", desc := "(I)I" } : Jvm.MethodName)) ∈ lw_all := lw_g (lw_at lw_m19 33 rfl) rfl
theorem q4746 : (Jvm.Cond.selects "WasteHouse$DepositCodes" ({ cls := "WasteHouse$DepositCodes", name := "coupon", desc := "(I)I" } : Jvm.MethodName) ({ cls := "WasteHouse$DepositCodes", name := "coupon", desc := "(I)I" } : Jvm.MethodName)) ∈ lw_all := lw_g (lw_at lw_m19 34 rfl) rfl
theorem q4747 : (Jvm.Cond.code ({ cls := "WasteHouse$DepositCodes", name := "coupon", desc := "(I)I" } : Jvm.MethodName) prog_9_method_21_code (3 : Nat) (Option.some Jvm.ClassFile.FieldType.int)) ∈ lw_all := lw_g (lw_at lw_m19 35 rfl) rfl
theorem q4749 : (Jvm.Cond.instanceMethod ({ cls := "WasteHouse$DepositCodes", name := "redeem", desc := "(II)Z" } : Jvm.MethodName)) ∈ lw_all := lw_g (lw_at lw_m19 37 rfl) rfl
theorem q4750 : (Jvm.Cond.selects "WasteHouse$DepositCodes" ({ cls := "WasteHouse$DepositCodes", name := "redeem", desc := "(II)Z" } : Jvm.MethodName) ({ cls := "WasteHouse$DepositCodes", name := "redeem", desc := "(II)Z" } : Jvm.MethodName)) ∈ lw_all := lw_g (lw_at lw_m19 38 rfl) rfl
theorem q4751 : (Jvm.Cond.code ({ cls := "WasteHouse$DepositCodes", name := "redeem", desc := "(II)Z" } : Jvm.MethodName) prog_9_method_22_code (3 : Nat) (Option.some Jvm.ClassFile.FieldType.boolean)) ∈ lw_all := lw_g (lw_at lw_m19 39 rfl) rfl
theorem q4752 : (Jvm.Cond.methodLink "WasteHouse$DepositCodes" (260 : Nat) ({ cls := "java/util/HashSet", name := "add", desc := "(Ljava/lang/Object;)Z" } : Jvm.MethodName)) ∈ lw_all := lw_g (lw_at lw_m19 40 rfl) rfl
theorem q4754 : (Jvm.Cond.instanceMethod ({ cls := "WasteHouse$DepositCodes", name := "shop", desc := "(I)J" } : Jvm.MethodName)) ∈ lw_all := lw_g (lw_at lw_m19 42 rfl) rfl
theorem q4755 : (Jvm.Cond.selects "WasteHouse$DepositCodes" ({ cls := "WasteHouse$DepositCodes", name := "shop", desc := "(I)J" } : Jvm.MethodName) ({ cls := "WasteHouse$DepositCodes", name := "shop", desc := "(I)J" } : Jvm.MethodName)) ∈ lw_all := lw_g (lw_at lw_m19 43 rfl) rfl
theorem q4756 : (Jvm.Cond.code ({ cls := "WasteHouse$DepositCodes", name := "shop", desc := "(I)J" } : Jvm.MethodName) prog_9_method_23_code (2 : Nat) (Option.some Jvm.ClassFile.FieldType.long)) ∈ lw_all := lw_g (lw_at lw_m19 44 rfl) rfl
theorem q4758 : (Jvm.Cond.instanceMethod ({ cls := "WasteHouse$DepositCodes", name := "clear", desc := "(I)I" } : Jvm.MethodName)) ∈ lw_all := lw_g (lw_at lw_m19 46 rfl) rfl
theorem q4759 : (Jvm.Cond.selects "WasteHouse$DepositCodes" ({ cls := "WasteHouse$DepositCodes", name := "clear", desc := "(I)I" } : Jvm.MethodName) ({ cls := "WasteHouse$DepositCodes", name := "clear", desc := "(I)I" } : Jvm.MethodName)) ∈ lw_all := lw_g (lw_at lw_m19 47 rfl) rfl
theorem q4760 : (Jvm.Cond.code ({ cls := "WasteHouse$DepositCodes", name := "clear", desc := "(I)I" } : Jvm.MethodName) prog_9_method_24_code (5 : Nat) (Option.some Jvm.ClassFile.FieldType.int)) ∈ lw_all := lw_g (lw_at lw_m19 48 rfl) rfl
theorem q4761 : (Jvm.Cond.constant "WasteHouse$DepositCodes" (261 : Nat) (40000 : Int32)) ∈ lw_all := lw_g (lw_at lw_m19 49 rfl) rfl
theorem q4763 : (Jvm.Cond.instanceMethod ({ cls := "WasteHouse$DepositCodes", name := "cleared", desc := "(I)J" } : Jvm.MethodName)) ∈ lw_all := lw_g (lw_at lw_m19 51 rfl) rfl
theorem q4764 : (Jvm.Cond.selects "WasteHouse$DepositCodes" ({ cls := "WasteHouse$DepositCodes", name := "cleared", desc := "(I)J" } : Jvm.MethodName) ({ cls := "WasteHouse$DepositCodes", name := "cleared", desc := "(I)J" } : Jvm.MethodName)) ∈ lw_all := lw_g (lw_at lw_m19 52 rfl) rfl
theorem q4765 : (Jvm.Cond.code ({ cls := "WasteHouse$DepositCodes", name := "cleared", desc := "(I)J" } : Jvm.MethodName) prog_9_method_25_code (2 : Nat) (Option.some Jvm.ClassFile.FieldType.long)) ∈ lw_all := lw_g (lw_at lw_m19 53 rfl) rfl
theorem q4767 : (Jvm.Cond.instanceMethod ({ cls := "WasteHouse$DepositCodes", name := "fraud", desc := "(I)I" } : Jvm.MethodName)) ∈ lw_all := lw_g (lw_at lw_m19 55 rfl) rfl
theorem q4768 : (Jvm.Cond.selects "WasteHouse$DepositCodes" ({ cls := "WasteHouse$DepositCodes", name := "fraud", desc := "(I)I" } : Jvm.MethodName) ({ cls := "WasteHouse$DepositCodes", name := "fraud", desc := "(I)I" } : Jvm.MethodName)) ∈ lw_all := lw_g (lw_at lw_m19 56 rfl) rfl
theorem q4769 : (Jvm.Cond.code ({ cls := "WasteHouse$DepositCodes", name := "fraud", desc := "(I)I" } : Jvm.MethodName) prog_9_method_26_code (5 : Nat) (Option.some Jvm.ClassFile.FieldType.int)) ∈ lw_all := lw_g (lw_at lw_m19 57 rfl) rfl
theorem q4770 : (Jvm.Cond.methodLink "WasteHouse$DepositCodes" (262 : Nat) ({ cls := "java/util/ArrayDeque", name := "iterator", desc := "()Ljava/util/Iterator;" } : Jvm.MethodName)) ∈ lw_all := lw_g (lw_at lw_m19 58 rfl) rfl
theorem q9655 : (Jvm.Cond.castable "WasteHouse$DepositCodes" "java/lang/Object") ∈ lw_tbl := lw_at lw_m39 143 rfl
theorem in_X34 : ∀ w ∈ wsX340, w ∈ lw_all := lw_in wsX340 [1871, 1873, 1875, 1877, 1879, 1881, 1883, 1885, 1887, 1889, 1891, 1893, 1895] (by decide +kernel) (by decide +kernel)
