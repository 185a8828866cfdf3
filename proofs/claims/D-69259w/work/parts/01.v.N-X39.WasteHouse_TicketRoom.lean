/-! WasteHouse$TicketRoom -/
set_option maxRecDepth 100000
def RX39 : String := "WasteHouse$TicketRoom"
def TX39 : u_T := fun k => match k with
  | 0 => ("WasteHouse$Room", "name", "Ljava/lang/String;", true)
  | 1 => ("WasteHouse$Room", "words", "Ljava/util/ArrayList;", true)
  | 2 => ("WasteHouse$Room", "needs", "Ljava/util/ArrayList;", true)
  | _ => ("WasteHouse$TicketRoom", "chain", "LWasteHouse$TicketChain;", true)
def tyX39 : Nat → FieldType := fun k => match k with
  | 0 => .object "java/lang/String"
  | 1 => .object "java/util/ArrayList"
  | 2 => .object "java/util/ArrayList"
  | _ => .object "WasteHouse$TicketChain"
abbrev wsX390 : List Cond := u_ws RX39 TX39 4
theorem nmX39 : ∀ a, a < 4 → ∀ b, b < 4 → a ≠ b → (TX39 a).2.1 ≠ (TX39 b).2.1 := by decide +kernel
theorem tyX39_ok : ∀ k, k < 4 → parseFieldDescriptor (TX39 k).2.2.1 = some (tyX39 k) := by decide +kernel
abbrev cX39_init : ByteArray := prog_54_method_1_code
def yX39_init : MethodName := ⟨RX39, "<init>", "(LWasteHouse$TicketChain;)V"⟩
def dkwX39_init_6 : List UInt8 := [182, 0, 19, 177]
abbrev dktX39_init_6 : List UInt8 := dkwX39_init_6 ++ []
def dkwX39_init_5 : List UInt8 := [182, 0, 19, 42, 18, 61, 18, 33, 182, 0, 19, 42, 18, 63, 18, 39, 182, 0, 19, 42, 18, 65, 18, 33]
abbrev dktX39_init_5 : List UInt8 := dkwX39_init_5 ++ dktX39_init_6
def dkwX39_init_4 : List UInt8 := [182, 0, 19, 42, 18, 53, 18, 33, 182, 0, 19, 42, 18, 55, 18, 57, 182, 0, 19, 42, 18, 59, 18, 33]
abbrev dktX39_init_4 : List UInt8 := dkwX39_init_4 ++ dktX39_init_5
def dkwX39_init_3 : List UInt8 := [182, 0, 19, 42, 18, 47, 18, 45, 182, 0, 19, 42, 18, 49, 18, 17, 182, 0, 19, 42, 18, 51, 18, 33]
abbrev dktX39_init_3 : List UInt8 := dkwX39_init_3 ++ dktX39_init_4
def dkwX39_init_2 : List UInt8 := [182, 0, 19, 42, 18, 37, 18, 39, 182, 0, 19, 42, 18, 41, 18, 39, 182, 0, 19, 42, 18, 43, 18, 45]
abbrev dktX39_init_2 : List UInt8 := dkwX39_init_2 ++ dktX39_init_3
def dkwX39_init_1 : List UInt8 := [182, 0, 19, 42, 18, 27, 18, 29, 182, 0, 19, 42, 18, 31, 18, 33, 182, 0, 19, 42, 18, 35, 18, 33]
abbrev dktX39_init_1 : List UInt8 := dkwX39_init_1 ++ dktX39_init_2
def dkwX39_init_0 : List UInt8 := [42, 18, 1, 183, 0, 3, 42, 43, 181, 0, 9, 42, 18, 15, 18, 17, 182, 0, 19, 42, 18, 23, 18, 25]
abbrev dktX39_init_0 : List UInt8 := dkwX39_init_0 ++ dktX39_init_1
theorem dksX39_init_0 : cX39_init.data.toList.drop 0 = dktX39_init_0 := by decide +kernel
theorem dksX39_init_1 : cX39_init.data.toList.drop 24 = dktX39_init_1 := dk_seg dksX39_init_0 24 rfl rfl
theorem dksX39_init_2 : cX39_init.data.toList.drop 48 = dktX39_init_2 := dk_seg dksX39_init_1 24 rfl rfl
theorem dksX39_init_3 : cX39_init.data.toList.drop 72 = dktX39_init_3 := dk_seg dksX39_init_2 24 rfl rfl
theorem dksX39_init_4 : cX39_init.data.toList.drop 96 = dktX39_init_4 := dk_seg dksX39_init_3 24 rfl rfl
theorem dksX39_init_5 : cX39_init.data.toList.drop 120 = dktX39_init_5 := dk_seg dksX39_init_4 24 rfl rfl
theorem dksX39_init_6 : cX39_init.data.toList.drop 144 = dktX39_init_6 := dk_seg dksX39_init_5 24 rfl rfl
theorem dX39_init_0 : decode cX39_init 0 = .ok (.aload_n 0, 1) := dk_42 (dk_at dksX39_init_0 0 rfl rfl)
theorem dX39_init_1 : decode cX39_init 1 = .ok (.ldc 1, 2) := dk_18 1 (dk_at dksX39_init_0 1 rfl rfl)
theorem dX39_init_3 : decode cX39_init 3 = .ok (.invokespecial 3, 3) := dk_183 0 3 (dk_at dksX39_init_0 3 rfl rfl)
theorem dX39_init_6 : decode cX39_init 6 = .ok (.aload_n 0, 1) := dk_42 (dk_at dksX39_init_0 6 rfl rfl)
theorem dX39_init_7 : decode cX39_init 7 = .ok (.aload_n 1, 1) := dk_43 (dk_at dksX39_init_0 7 rfl rfl)
theorem dX39_init_8 : decode cX39_init 8 = .ok (.putfield 9, 3) := dk_181 0 9 (dk_at dksX39_init_0 8 rfl rfl)
theorem dX39_init_11 : decode cX39_init 11 = .ok (.aload_n 0, 1) := dk_42 (dk_at dksX39_init_0 11 rfl rfl)
theorem dX39_init_12 : decode cX39_init 12 = .ok (.ldc 15, 2) := dk_18 15 (dk_at dksX39_init_0 12 rfl rfl)
theorem dX39_init_14 : decode cX39_init 14 = .ok (.ldc 17, 2) := dk_18 17 (dk_at dksX39_init_0 14 rfl rfl)
theorem dX39_init_16 : decode cX39_init 16 = .ok (.invokevirtual 19, 3) := dk_182 0 19 (dk_at dksX39_init_0 16 rfl rfl)
theorem dX39_init_19 : decode cX39_init 19 = .ok (.aload_n 0, 1) := dk_42 (dk_at dksX39_init_0 19 rfl rfl)
theorem dX39_init_20 : decode cX39_init 20 = .ok (.ldc 23, 2) := dk_18 23 (dk_at dksX39_init_0 20 rfl rfl)
theorem dX39_init_22 : decode cX39_init 22 = .ok (.ldc 25, 2) := dk_18 25 (dk_at dksX39_init_0 22 rfl rfl)
theorem dX39_init_24 : decode cX39_init 24 = .ok (.invokevirtual 19, 3) := dk_182 0 19 (dk_at dksX39_init_1 0 rfl rfl)
theorem dX39_init_27 : decode cX39_init 27 = .ok (.aload_n 0, 1) := dk_42 (dk_at dksX39_init_1 3 rfl rfl)
theorem dX39_init_28 : decode cX39_init 28 = .ok (.ldc 27, 2) := dk_18 27 (dk_at dksX39_init_1 4 rfl rfl)
theorem dX39_init_30 : decode cX39_init 30 = .ok (.ldc 29, 2) := dk_18 29 (dk_at dksX39_init_1 6 rfl rfl)
theorem dX39_init_32 : decode cX39_init 32 = .ok (.invokevirtual 19, 3) := dk_182 0 19 (dk_at dksX39_init_1 8 rfl rfl)
theorem dX39_init_35 : decode cX39_init 35 = .ok (.aload_n 0, 1) := dk_42 (dk_at dksX39_init_1 11 rfl rfl)
theorem dX39_init_36 : decode cX39_init 36 = .ok (.ldc 31, 2) := dk_18 31 (dk_at dksX39_init_1 12 rfl rfl)
theorem dX39_init_38 : decode cX39_init 38 = .ok (.ldc 33, 2) := dk_18 33 (dk_at dksX39_init_1 14 rfl rfl)
theorem dX39_init_40 : decode cX39_init 40 = .ok (.invokevirtual 19, 3) := dk_182 0 19 (dk_at dksX39_init_1 16 rfl rfl)
theorem dX39_init_43 : decode cX39_init 43 = .ok (.aload_n 0, 1) := dk_42 (dk_at dksX39_init_1 19 rfl rfl)
theorem dX39_init_44 : decode cX39_init 44 = .ok (.ldc 35, 2) := dk_18 35 (dk_at dksX39_init_1 20 rfl rfl)
theorem dX39_init_46 : decode cX39_init 46 = .ok (.ldc 33, 2) := dk_18 33 (dk_at dksX39_init_1 22 rfl rfl)
theorem dX39_init_48 : decode cX39_init 48 = .ok (.invokevirtual 19, 3) := dk_182 0 19 (dk_at dksX39_init_2 0 rfl rfl)
theorem dX39_init_51 : decode cX39_init 51 = .ok (.aload_n 0, 1) := dk_42 (dk_at dksX39_init_2 3 rfl rfl)
theorem dX39_init_52 : decode cX39_init 52 = .ok (.ldc 37, 2) := dk_18 37 (dk_at dksX39_init_2 4 rfl rfl)
theorem dX39_init_54 : decode cX39_init 54 = .ok (.ldc 39, 2) := dk_18 39 (dk_at dksX39_init_2 6 rfl rfl)
theorem dX39_init_56 : decode cX39_init 56 = .ok (.invokevirtual 19, 3) := dk_182 0 19 (dk_at dksX39_init_2 8 rfl rfl)
theorem dX39_init_59 : decode cX39_init 59 = .ok (.aload_n 0, 1) := dk_42 (dk_at dksX39_init_2 11 rfl rfl)
theorem dX39_init_60 : decode cX39_init 60 = .ok (.ldc 41, 2) := dk_18 41 (dk_at dksX39_init_2 12 rfl rfl)
theorem dX39_init_62 : decode cX39_init 62 = .ok (.ldc 39, 2) := dk_18 39 (dk_at dksX39_init_2 14 rfl rfl)
theorem dX39_init_64 : decode cX39_init 64 = .ok (.invokevirtual 19, 3) := dk_182 0 19 (dk_at dksX39_init_2 16 rfl rfl)
theorem dX39_init_67 : decode cX39_init 67 = .ok (.aload_n 0, 1) := dk_42 (dk_at dksX39_init_2 19 rfl rfl)
theorem dX39_init_68 : decode cX39_init 68 = .ok (.ldc 43, 2) := dk_18 43 (dk_at dksX39_init_2 20 rfl rfl)
theorem dX39_init_70 : decode cX39_init 70 = .ok (.ldc 45, 2) := dk_18 45 (dk_at dksX39_init_2 22 rfl rfl)
theorem dX39_init_72 : decode cX39_init 72 = .ok (.invokevirtual 19, 3) := dk_182 0 19 (dk_at dksX39_init_3 0 rfl rfl)
theorem dX39_init_75 : decode cX39_init 75 = .ok (.aload_n 0, 1) := dk_42 (dk_at dksX39_init_3 3 rfl rfl)
theorem dX39_init_76 : decode cX39_init 76 = .ok (.ldc 47, 2) := dk_18 47 (dk_at dksX39_init_3 4 rfl rfl)
theorem dX39_init_78 : decode cX39_init 78 = .ok (.ldc 45, 2) := dk_18 45 (dk_at dksX39_init_3 6 rfl rfl)
theorem dX39_init_80 : decode cX39_init 80 = .ok (.invokevirtual 19, 3) := dk_182 0 19 (dk_at dksX39_init_3 8 rfl rfl)
theorem dX39_init_83 : decode cX39_init 83 = .ok (.aload_n 0, 1) := dk_42 (dk_at dksX39_init_3 11 rfl rfl)
theorem dX39_init_84 : decode cX39_init 84 = .ok (.ldc 49, 2) := dk_18 49 (dk_at dksX39_init_3 12 rfl rfl)
theorem dX39_init_86 : decode cX39_init 86 = .ok (.ldc 17, 2) := dk_18 17 (dk_at dksX39_init_3 14 rfl rfl)
theorem dX39_init_88 : decode cX39_init 88 = .ok (.invokevirtual 19, 3) := dk_182 0 19 (dk_at dksX39_init_3 16 rfl rfl)
theorem dX39_init_91 : decode cX39_init 91 = .ok (.aload_n 0, 1) := dk_42 (dk_at dksX39_init_3 19 rfl rfl)
theorem dX39_init_92 : decode cX39_init 92 = .ok (.ldc 51, 2) := dk_18 51 (dk_at dksX39_init_3 20 rfl rfl)
theorem dX39_init_94 : decode cX39_init 94 = .ok (.ldc 33, 2) := dk_18 33 (dk_at dksX39_init_3 22 rfl rfl)
theorem dX39_init_96 : decode cX39_init 96 = .ok (.invokevirtual 19, 3) := dk_182 0 19 (dk_at dksX39_init_4 0 rfl rfl)
theorem dX39_init_99 : decode cX39_init 99 = .ok (.aload_n 0, 1) := dk_42 (dk_at dksX39_init_4 3 rfl rfl)
theorem dX39_init_100 : decode cX39_init 100 = .ok (.ldc 53, 2) := dk_18 53 (dk_at dksX39_init_4 4 rfl rfl)
theorem dX39_init_102 : decode cX39_init 102 = .ok (.ldc 33, 2) := dk_18 33 (dk_at dksX39_init_4 6 rfl rfl)
theorem dX39_init_104 : decode cX39_init 104 = .ok (.invokevirtual 19, 3) := dk_182 0 19 (dk_at dksX39_init_4 8 rfl rfl)
theorem dX39_init_107 : decode cX39_init 107 = .ok (.aload_n 0, 1) := dk_42 (dk_at dksX39_init_4 11 rfl rfl)
theorem dX39_init_108 : decode cX39_init 108 = .ok (.ldc 55, 2) := dk_18 55 (dk_at dksX39_init_4 12 rfl rfl)
theorem dX39_init_110 : decode cX39_init 110 = .ok (.ldc 57, 2) := dk_18 57 (dk_at dksX39_init_4 14 rfl rfl)
theorem dX39_init_112 : decode cX39_init 112 = .ok (.invokevirtual 19, 3) := dk_182 0 19 (dk_at dksX39_init_4 16 rfl rfl)
theorem dX39_init_115 : decode cX39_init 115 = .ok (.aload_n 0, 1) := dk_42 (dk_at dksX39_init_4 19 rfl rfl)
theorem dX39_init_116 : decode cX39_init 116 = .ok (.ldc 59, 2) := dk_18 59 (dk_at dksX39_init_4 20 rfl rfl)
theorem dX39_init_118 : decode cX39_init 118 = .ok (.ldc 33, 2) := dk_18 33 (dk_at dksX39_init_4 22 rfl rfl)
theorem dX39_init_120 : decode cX39_init 120 = .ok (.invokevirtual 19, 3) := dk_182 0 19 (dk_at dksX39_init_5 0 rfl rfl)
theorem dX39_init_123 : decode cX39_init 123 = .ok (.aload_n 0, 1) := dk_42 (dk_at dksX39_init_5 3 rfl rfl)
theorem dX39_init_124 : decode cX39_init 124 = .ok (.ldc 61, 2) := dk_18 61 (dk_at dksX39_init_5 4 rfl rfl)
theorem dX39_init_126 : decode cX39_init 126 = .ok (.ldc 33, 2) := dk_18 33 (dk_at dksX39_init_5 6 rfl rfl)
theorem dX39_init_128 : decode cX39_init 128 = .ok (.invokevirtual 19, 3) := dk_182 0 19 (dk_at dksX39_init_5 8 rfl rfl)
theorem dX39_init_131 : decode cX39_init 131 = .ok (.aload_n 0, 1) := dk_42 (dk_at dksX39_init_5 11 rfl rfl)
theorem dX39_init_132 : decode cX39_init 132 = .ok (.ldc 63, 2) := dk_18 63 (dk_at dksX39_init_5 12 rfl rfl)
theorem dX39_init_134 : decode cX39_init 134 = .ok (.ldc 39, 2) := dk_18 39 (dk_at dksX39_init_5 14 rfl rfl)
theorem dX39_init_136 : decode cX39_init 136 = .ok (.invokevirtual 19, 3) := dk_182 0 19 (dk_at dksX39_init_5 16 rfl rfl)
theorem dX39_init_139 : decode cX39_init 139 = .ok (.aload_n 0, 1) := dk_42 (dk_at dksX39_init_5 19 rfl rfl)
theorem dX39_init_140 : decode cX39_init 140 = .ok (.ldc 65, 2) := dk_18 65 (dk_at dksX39_init_5 20 rfl rfl)
theorem dX39_init_142 : decode cX39_init 142 = .ok (.ldc 33, 2) := dk_18 33 (dk_at dksX39_init_5 22 rfl rfl)
theorem dX39_init_144 : decode cX39_init 144 = .ok (.invokevirtual 19, 3) := dk_182 0 19 (dk_at dksX39_init_6 0 rfl rfl)
theorem dX39_init_147 : decode cX39_init 147 = .ok (.return_, 1) := dk_177 (dk_at dksX39_init_6 3 rfl rfl)
abbrev cX39_call : ByteArray := prog_54_method_2_code
def yX39_call : MethodName := ⟨RX39, "call", "(I[J)J"⟩
def dkwX39_call_11 : List UInt8 := [182, 0, 112, 133, 173, 42, 180, 0, 9, 29, 21, 4, 182, 0, 114, 133, 173]
abbrev dktX39_call_11 : List UInt8 := dkwX39_call_11 ++ []
def dkwX39_call_10 : List UInt8 := [182, 0, 107, 133, 173, 42, 180, 0, 9, 29, 21, 4, 182, 0, 110, 133, 173, 42, 180, 0, 9, 29]
abbrev dktX39_call_10 : List UInt8 := dkwX39_call_10 ++ dktX39_call_11
def dkwX39_call_9 : List UInt8 := [180, 0, 9, 29, 21, 4, 44, 5, 47, 136, 182, 0, 104, 184, 0, 72, 173, 42, 180, 0, 9, 29, 21, 4]
abbrev dktX39_call_9 : List UInt8 := dkwX39_call_9 ++ dktX39_call_10
def dkwX39_call_8 : List UInt8 := [180, 0, 9, 29, 21, 4, 182, 0, 100, 173, 42, 180, 0, 9, 29, 21, 4, 182, 0, 102, 133, 173, 42]
abbrev dktX39_call_8 : List UInt8 := dkwX39_call_8 ++ dktX39_call_9
def dkwX39_call_7 : List UInt8 := [182, 0, 96, 133, 173, 42, 180, 0, 9, 29, 21, 4, 44, 5, 47, 182, 0, 98, 184, 0, 72, 173, 42]
abbrev dktX39_call_7 : List UInt8 := dkwX39_call_7 ++ dktX39_call_8
def dkwX39_call_6 : List UInt8 := [180, 0, 9, 29, 182, 0, 91, 133, 173, 42, 180, 0, 9, 182, 0, 93, 133, 173, 42, 180, 0, 9]
abbrev dktX39_call_6 : List UInt8 := dkwX39_call_6 ++ dktX39_call_7
def dkwX39_call_5 : List UInt8 := [133, 173, 42, 180, 0, 9, 29, 21, 4, 182, 0, 85, 173, 42, 180, 0, 9, 29, 182, 0, 88, 133, 173, 42]
abbrev dktX39_call_5 : List UInt8 := dkwX39_call_5 ++ dktX39_call_6
def dkwX39_call_4 : List UInt8 := [21, 4, 44, 5, 47, 44, 6, 47, 136, 182, 0, 79, 133, 173, 42, 180, 0, 9, 29, 21, 4, 182, 0, 82]
abbrev dktX39_call_4 : List UInt8 := dkwX39_call_4 ++ dktX39_call_5
def dkwX39_call_3 : List UInt8 := [44, 5, 47, 44, 6, 47, 44, 7, 47, 44, 8, 47, 136, 182, 0, 76, 133, 173, 42, 180, 0, 9, 29]
abbrev dktX39_call_3 : List UInt8 := dkwX39_call_3 ++ dktX39_call_4
def dkwX39_call_2 : List UInt8 := [42, 180, 0, 9, 29, 21, 4, 44, 5, 47, 182, 0, 67, 184, 0, 72, 173, 42, 180, 0, 9, 29, 21, 4]
abbrev dktX39_call_2 : List UInt8 := dkwX39_call_2 ++ dktX39_call_3
def dkwX39_call_1 : List UInt8 := [170, 0, 0, 0, 0, 0, 1, 38, 0, 0, 0, 0, 0, 0, 0, 15, 0, 0, 0, 80, 0, 0, 0, 97, 0, 0, 0, 122, 0, 0, 0, 141, 0, 0, 0, 153, 0, 0, 0, 164, 0, 0, 0, 174, 0, 0, 0, 184, 0, 0, 0, 193, 0, 0, 0, 202, 0, 0, 0, 219, 0, 0, 0, 230, 0, 0, 0, 242, 0, 0, 1, 4, 0, 0, 1, 16, 0, 0, 1, 28]
abbrev dktX39_call_1 : List UInt8 := dkwX39_call_1 ++ dktX39_call_2
def dkwX39_call_0 : List UInt8 := [44, 3, 47, 136, 62, 44, 4, 47, 136, 54, 4, 27]
abbrev dktX39_call_0 : List UInt8 := dkwX39_call_0 ++ dktX39_call_1
theorem dksX39_call_0 : cX39_call.data.toList.drop 0 = dktX39_call_0 := by decide +kernel
theorem dksX39_call_1 : cX39_call.data.toList.drop 12 = dktX39_call_1 := dk_seg dksX39_call_0 12 rfl rfl
theorem dksX39_call_2 : cX39_call.data.toList.drop 92 = dktX39_call_2 := dk_seg dksX39_call_1 80 rfl rfl
theorem dksX39_call_3 : cX39_call.data.toList.drop 116 = dktX39_call_3 := dk_seg dksX39_call_2 24 rfl rfl
theorem dksX39_call_4 : cX39_call.data.toList.drop 139 = dktX39_call_4 := dk_seg dksX39_call_3 23 rfl rfl
theorem dksX39_call_5 : cX39_call.data.toList.drop 163 = dktX39_call_5 := dk_seg dksX39_call_4 24 rfl rfl
theorem dksX39_call_6 : cX39_call.data.toList.drop 187 = dktX39_call_6 := dk_seg dksX39_call_5 24 rfl rfl
theorem dksX39_call_7 : cX39_call.data.toList.drop 209 = dktX39_call_7 := dk_seg dksX39_call_6 22 rfl rfl
theorem dksX39_call_8 : cX39_call.data.toList.drop 232 = dktX39_call_8 := dk_seg dksX39_call_7 23 rfl rfl
theorem dksX39_call_9 : cX39_call.data.toList.drop 255 = dktX39_call_9 := dk_seg dksX39_call_8 23 rfl rfl
theorem dksX39_call_10 : cX39_call.data.toList.drop 279 = dktX39_call_10 := dk_seg dksX39_call_9 24 rfl rfl
theorem dksX39_call_11 : cX39_call.data.toList.drop 301 = dktX39_call_11 := dk_seg dksX39_call_10 22 rfl rfl
theorem dX39_call_0 : decode cX39_call 0 = .ok (.aload_n 2, 1) := dk_44 (dk_at dksX39_call_0 0 rfl rfl)
theorem dX39_call_1 : decode cX39_call 1 = .ok (.iconst 0, 1) := dk_3 (dk_at dksX39_call_0 1 rfl rfl)
theorem dX39_call_2 : decode cX39_call 2 = .ok (.laload, 1) := dk_47 (dk_at dksX39_call_0 2 rfl rfl)
theorem dX39_call_3 : decode cX39_call 3 = .ok (.l2i, 1) := dk_136 (dk_at dksX39_call_0 3 rfl rfl)
theorem dX39_call_4 : decode cX39_call 4 = .ok (.istore_n 3, 1) := dk_62 (dk_at dksX39_call_0 4 rfl rfl)
theorem dX39_call_5 : decode cX39_call 5 = .ok (.aload_n 2, 1) := dk_44 (dk_at dksX39_call_0 5 rfl rfl)
theorem dX39_call_6 : decode cX39_call 6 = .ok (.iconst 1, 1) := dk_4 (dk_at dksX39_call_0 6 rfl rfl)
theorem dX39_call_7 : decode cX39_call 7 = .ok (.laload, 1) := dk_47 (dk_at dksX39_call_0 7 rfl rfl)
theorem dX39_call_8 : decode cX39_call 8 = .ok (.l2i, 1) := dk_136 (dk_at dksX39_call_0 8 rfl rfl)
theorem dX39_call_9 : decode cX39_call 9 = .ok (.istore 4, 2) := dk_54 4 (dk_at dksX39_call_0 9 rfl rfl)
theorem dX39_call_11 : decode cX39_call 11 = .ok (.iload_n 1, 1) := dk_27 (dk_at dksX39_call_0 11 rfl rfl)
theorem dX39_call_12 : decode cX39_call 12 = .ok (.tableswitch 294 0 15 #[80, 97, 122, 141, 153, 164, 174, 184, 193, 202, 219, 230, 242, 260, 272, 284], 80) := by decide +kernel
theorem dX39_call_92 : decode cX39_call 92 = .ok (.aload_n 0, 1) := dk_42 (dk_at dksX39_call_2 0 rfl rfl)
theorem dX39_call_93 : decode cX39_call 93 = .ok (.getfield 9, 3) := dk_180 0 9 (dk_at dksX39_call_2 1 rfl rfl)
theorem dX39_call_96 : decode cX39_call 96 = .ok (.iload_n 3, 1) := dk_29 (dk_at dksX39_call_2 4 rfl rfl)
theorem dX39_call_97 : decode cX39_call 97 = .ok (.iload 4, 2) := dk_21 4 (dk_at dksX39_call_2 5 rfl rfl)
theorem dX39_call_99 : decode cX39_call 99 = .ok (.aload_n 2, 1) := dk_44 (dk_at dksX39_call_2 7 rfl rfl)
theorem dX39_call_100 : decode cX39_call 100 = .ok (.iconst 2, 1) := dk_5 (dk_at dksX39_call_2 8 rfl rfl)
theorem dX39_call_101 : decode cX39_call 101 = .ok (.laload, 1) := dk_47 (dk_at dksX39_call_2 9 rfl rfl)
theorem dX39_call_102 : decode cX39_call 102 = .ok (.invokevirtual 67, 3) := dk_182 0 67 (dk_at dksX39_call_2 10 rfl rfl)
theorem dX39_call_105 : decode cX39_call 105 = .ok (.invokestatic 72, 3) := dk_184 0 72 (dk_at dksX39_call_2 13 rfl rfl)
theorem dX39_call_108 : decode cX39_call 108 = .ok (.lreturn, 1) := dk_173 (dk_at dksX39_call_2 16 rfl rfl)
theorem dX39_call_109 : decode cX39_call 109 = .ok (.aload_n 0, 1) := dk_42 (dk_at dksX39_call_2 17 rfl rfl)
theorem dX39_call_110 : decode cX39_call 110 = .ok (.getfield 9, 3) := dk_180 0 9 (dk_at dksX39_call_2 18 rfl rfl)
theorem dX39_call_113 : decode cX39_call 113 = .ok (.iload_n 3, 1) := dk_29 (dk_at dksX39_call_2 21 rfl rfl)
theorem dX39_call_114 : decode cX39_call 114 = .ok (.iload 4, 2) := dk_21 4 (dk_at dksX39_call_2 22 rfl rfl)
theorem dX39_call_116 : decode cX39_call 116 = .ok (.aload_n 2, 1) := dk_44 (dk_at dksX39_call_3 0 rfl rfl)
theorem dX39_call_117 : decode cX39_call 117 = .ok (.iconst 2, 1) := dk_5 (dk_at dksX39_call_3 1 rfl rfl)
theorem dX39_call_118 : decode cX39_call 118 = .ok (.laload, 1) := dk_47 (dk_at dksX39_call_3 2 rfl rfl)
theorem dX39_call_119 : decode cX39_call 119 = .ok (.aload_n 2, 1) := dk_44 (dk_at dksX39_call_3 3 rfl rfl)
theorem dX39_call_120 : decode cX39_call 120 = .ok (.iconst 3, 1) := dk_6 (dk_at dksX39_call_3 4 rfl rfl)
theorem dX39_call_121 : decode cX39_call 121 = .ok (.laload, 1) := dk_47 (dk_at dksX39_call_3 5 rfl rfl)
theorem dX39_call_122 : decode cX39_call 122 = .ok (.aload_n 2, 1) := dk_44 (dk_at dksX39_call_3 6 rfl rfl)
theorem dX39_call_123 : decode cX39_call 123 = .ok (.iconst 4, 1) := dk_7 (dk_at dksX39_call_3 7 rfl rfl)
theorem dX39_call_124 : decode cX39_call 124 = .ok (.laload, 1) := dk_47 (dk_at dksX39_call_3 8 rfl rfl)
theorem dX39_call_125 : decode cX39_call 125 = .ok (.aload_n 2, 1) := dk_44 (dk_at dksX39_call_3 9 rfl rfl)
theorem dX39_call_126 : decode cX39_call 126 = .ok (.iconst 5, 1) := dk_8 (dk_at dksX39_call_3 10 rfl rfl)
theorem dX39_call_127 : decode cX39_call 127 = .ok (.laload, 1) := dk_47 (dk_at dksX39_call_3 11 rfl rfl)
theorem dX39_call_128 : decode cX39_call 128 = .ok (.l2i, 1) := dk_136 (dk_at dksX39_call_3 12 rfl rfl)
theorem dX39_call_129 : decode cX39_call 129 = .ok (.invokevirtual 76, 3) := dk_182 0 76 (dk_at dksX39_call_3 13 rfl rfl)
theorem dX39_call_132 : decode cX39_call 132 = .ok (.i2l, 1) := dk_133 (dk_at dksX39_call_3 16 rfl rfl)
theorem dX39_call_133 : decode cX39_call 133 = .ok (.lreturn, 1) := dk_173 (dk_at dksX39_call_3 17 rfl rfl)
theorem dX39_call_134 : decode cX39_call 134 = .ok (.aload_n 0, 1) := dk_42 (dk_at dksX39_call_3 18 rfl rfl)
theorem dX39_call_135 : decode cX39_call 135 = .ok (.getfield 9, 3) := dk_180 0 9 (dk_at dksX39_call_3 19 rfl rfl)
theorem dX39_call_138 : decode cX39_call 138 = .ok (.iload_n 3, 1) := dk_29 (dk_at dksX39_call_3 22 rfl rfl)
theorem dX39_call_139 : decode cX39_call 139 = .ok (.iload 4, 2) := dk_21 4 (dk_at dksX39_call_4 0 rfl rfl)
theorem dX39_call_141 : decode cX39_call 141 = .ok (.aload_n 2, 1) := dk_44 (dk_at dksX39_call_4 2 rfl rfl)
theorem dX39_call_142 : decode cX39_call 142 = .ok (.iconst 2, 1) := dk_5 (dk_at dksX39_call_4 3 rfl rfl)
theorem dX39_call_143 : decode cX39_call 143 = .ok (.laload, 1) := dk_47 (dk_at dksX39_call_4 4 rfl rfl)
theorem dX39_call_144 : decode cX39_call 144 = .ok (.aload_n 2, 1) := dk_44 (dk_at dksX39_call_4 5 rfl rfl)
theorem dX39_call_145 : decode cX39_call 145 = .ok (.iconst 3, 1) := dk_6 (dk_at dksX39_call_4 6 rfl rfl)
theorem dX39_call_146 : decode cX39_call 146 = .ok (.laload, 1) := dk_47 (dk_at dksX39_call_4 7 rfl rfl)
theorem dX39_call_147 : decode cX39_call 147 = .ok (.l2i, 1) := dk_136 (dk_at dksX39_call_4 8 rfl rfl)
theorem dX39_call_148 : decode cX39_call 148 = .ok (.invokevirtual 79, 3) := dk_182 0 79 (dk_at dksX39_call_4 9 rfl rfl)
theorem dX39_call_151 : decode cX39_call 151 = .ok (.i2l, 1) := dk_133 (dk_at dksX39_call_4 12 rfl rfl)
theorem dX39_call_152 : decode cX39_call 152 = .ok (.lreturn, 1) := dk_173 (dk_at dksX39_call_4 13 rfl rfl)
theorem dX39_call_153 : decode cX39_call 153 = .ok (.aload_n 0, 1) := dk_42 (dk_at dksX39_call_4 14 rfl rfl)
theorem dX39_call_154 : decode cX39_call 154 = .ok (.getfield 9, 3) := dk_180 0 9 (dk_at dksX39_call_4 15 rfl rfl)
theorem dX39_call_157 : decode cX39_call 157 = .ok (.iload_n 3, 1) := dk_29 (dk_at dksX39_call_4 18 rfl rfl)
theorem dX39_call_158 : decode cX39_call 158 = .ok (.iload 4, 2) := dk_21 4 (dk_at dksX39_call_4 19 rfl rfl)
theorem dX39_call_160 : decode cX39_call 160 = .ok (.invokevirtual 82, 3) := dk_182 0 82 (dk_at dksX39_call_4 21 rfl rfl)
theorem dX39_call_163 : decode cX39_call 163 = .ok (.i2l, 1) := dk_133 (dk_at dksX39_call_5 0 rfl rfl)
theorem dX39_call_164 : decode cX39_call 164 = .ok (.lreturn, 1) := dk_173 (dk_at dksX39_call_5 1 rfl rfl)
theorem dX39_call_165 : decode cX39_call 165 = .ok (.aload_n 0, 1) := dk_42 (dk_at dksX39_call_5 2 rfl rfl)
theorem dX39_call_166 : decode cX39_call 166 = .ok (.getfield 9, 3) := dk_180 0 9 (dk_at dksX39_call_5 3 rfl rfl)
theorem dX39_call_169 : decode cX39_call 169 = .ok (.iload_n 3, 1) := dk_29 (dk_at dksX39_call_5 6 rfl rfl)
theorem dX39_call_170 : decode cX39_call 170 = .ok (.iload 4, 2) := dk_21 4 (dk_at dksX39_call_5 7 rfl rfl)
theorem dX39_call_172 : decode cX39_call 172 = .ok (.invokevirtual 85, 3) := dk_182 0 85 (dk_at dksX39_call_5 9 rfl rfl)
theorem dX39_call_175 : decode cX39_call 175 = .ok (.lreturn, 1) := dk_173 (dk_at dksX39_call_5 12 rfl rfl)
theorem dX39_call_176 : decode cX39_call 176 = .ok (.aload_n 0, 1) := dk_42 (dk_at dksX39_call_5 13 rfl rfl)
theorem dX39_call_177 : decode cX39_call 177 = .ok (.getfield 9, 3) := dk_180 0 9 (dk_at dksX39_call_5 14 rfl rfl)
theorem dX39_call_180 : decode cX39_call 180 = .ok (.iload_n 3, 1) := dk_29 (dk_at dksX39_call_5 17 rfl rfl)
theorem dX39_call_181 : decode cX39_call 181 = .ok (.invokevirtual 88, 3) := dk_182 0 88 (dk_at dksX39_call_5 18 rfl rfl)
theorem dX39_call_184 : decode cX39_call 184 = .ok (.i2l, 1) := dk_133 (dk_at dksX39_call_5 21 rfl rfl)
theorem dX39_call_185 : decode cX39_call 185 = .ok (.lreturn, 1) := dk_173 (dk_at dksX39_call_5 22 rfl rfl)
theorem dX39_call_186 : decode cX39_call 186 = .ok (.aload_n 0, 1) := dk_42 (dk_at dksX39_call_5 23 rfl rfl)
theorem dX39_call_187 : decode cX39_call 187 = .ok (.getfield 9, 3) := dk_180 0 9 (dk_at dksX39_call_6 0 rfl rfl)
theorem dX39_call_190 : decode cX39_call 190 = .ok (.iload_n 3, 1) := dk_29 (dk_at dksX39_call_6 3 rfl rfl)
theorem dX39_call_191 : decode cX39_call 191 = .ok (.invokevirtual 91, 3) := dk_182 0 91 (dk_at dksX39_call_6 4 rfl rfl)
theorem dX39_call_194 : decode cX39_call 194 = .ok (.i2l, 1) := dk_133 (dk_at dksX39_call_6 7 rfl rfl)
theorem dX39_call_195 : decode cX39_call 195 = .ok (.lreturn, 1) := dk_173 (dk_at dksX39_call_6 8 rfl rfl)
theorem dX39_call_196 : decode cX39_call 196 = .ok (.aload_n 0, 1) := dk_42 (dk_at dksX39_call_6 9 rfl rfl)
theorem dX39_call_197 : decode cX39_call 197 = .ok (.getfield 9, 3) := dk_180 0 9 (dk_at dksX39_call_6 10 rfl rfl)
theorem dX39_call_200 : decode cX39_call 200 = .ok (.invokevirtual 93, 3) := dk_182 0 93 (dk_at dksX39_call_6 13 rfl rfl)
theorem dX39_call_203 : decode cX39_call 203 = .ok (.i2l, 1) := dk_133 (dk_at dksX39_call_6 16 rfl rfl)
theorem dX39_call_204 : decode cX39_call 204 = .ok (.lreturn, 1) := dk_173 (dk_at dksX39_call_6 17 rfl rfl)
theorem dX39_call_205 : decode cX39_call 205 = .ok (.aload_n 0, 1) := dk_42 (dk_at dksX39_call_6 18 rfl rfl)
theorem dX39_call_206 : decode cX39_call 206 = .ok (.getfield 9, 3) := dk_180 0 9 (dk_at dksX39_call_6 19 rfl rfl)
theorem dX39_call_209 : decode cX39_call 209 = .ok (.invokevirtual 96, 3) := dk_182 0 96 (dk_at dksX39_call_7 0 rfl rfl)
theorem dX39_call_212 : decode cX39_call 212 = .ok (.i2l, 1) := dk_133 (dk_at dksX39_call_7 3 rfl rfl)
theorem dX39_call_213 : decode cX39_call 213 = .ok (.lreturn, 1) := dk_173 (dk_at dksX39_call_7 4 rfl rfl)
theorem dX39_call_214 : decode cX39_call 214 = .ok (.aload_n 0, 1) := dk_42 (dk_at dksX39_call_7 5 rfl rfl)
theorem dX39_call_215 : decode cX39_call 215 = .ok (.getfield 9, 3) := dk_180 0 9 (dk_at dksX39_call_7 6 rfl rfl)
theorem dX39_call_218 : decode cX39_call 218 = .ok (.iload_n 3, 1) := dk_29 (dk_at dksX39_call_7 9 rfl rfl)
theorem dX39_call_219 : decode cX39_call 219 = .ok (.iload 4, 2) := dk_21 4 (dk_at dksX39_call_7 10 rfl rfl)
theorem dX39_call_221 : decode cX39_call 221 = .ok (.aload_n 2, 1) := dk_44 (dk_at dksX39_call_7 12 rfl rfl)
theorem dX39_call_222 : decode cX39_call 222 = .ok (.iconst 2, 1) := dk_5 (dk_at dksX39_call_7 13 rfl rfl)
theorem dX39_call_223 : decode cX39_call 223 = .ok (.laload, 1) := dk_47 (dk_at dksX39_call_7 14 rfl rfl)
theorem dX39_call_224 : decode cX39_call 224 = .ok (.invokevirtual 98, 3) := dk_182 0 98 (dk_at dksX39_call_7 15 rfl rfl)
theorem dX39_call_227 : decode cX39_call 227 = .ok (.invokestatic 72, 3) := dk_184 0 72 (dk_at dksX39_call_7 18 rfl rfl)
theorem dX39_call_230 : decode cX39_call 230 = .ok (.lreturn, 1) := dk_173 (dk_at dksX39_call_7 21 rfl rfl)
theorem dX39_call_231 : decode cX39_call 231 = .ok (.aload_n 0, 1) := dk_42 (dk_at dksX39_call_7 22 rfl rfl)
theorem dX39_call_232 : decode cX39_call 232 = .ok (.getfield 9, 3) := dk_180 0 9 (dk_at dksX39_call_8 0 rfl rfl)
theorem dX39_call_235 : decode cX39_call 235 = .ok (.iload_n 3, 1) := dk_29 (dk_at dksX39_call_8 3 rfl rfl)
theorem dX39_call_236 : decode cX39_call 236 = .ok (.iload 4, 2) := dk_21 4 (dk_at dksX39_call_8 4 rfl rfl)
theorem dX39_call_238 : decode cX39_call 238 = .ok (.invokevirtual 100, 3) := dk_182 0 100 (dk_at dksX39_call_8 6 rfl rfl)
theorem dX39_call_241 : decode cX39_call 241 = .ok (.lreturn, 1) := dk_173 (dk_at dksX39_call_8 9 rfl rfl)
theorem dX39_call_242 : decode cX39_call 242 = .ok (.aload_n 0, 1) := dk_42 (dk_at dksX39_call_8 10 rfl rfl)
theorem dX39_call_243 : decode cX39_call 243 = .ok (.getfield 9, 3) := dk_180 0 9 (dk_at dksX39_call_8 11 rfl rfl)
theorem dX39_call_246 : decode cX39_call 246 = .ok (.iload_n 3, 1) := dk_29 (dk_at dksX39_call_8 14 rfl rfl)
theorem dX39_call_247 : decode cX39_call 247 = .ok (.iload 4, 2) := dk_21 4 (dk_at dksX39_call_8 15 rfl rfl)
theorem dX39_call_249 : decode cX39_call 249 = .ok (.invokevirtual 102, 3) := dk_182 0 102 (dk_at dksX39_call_8 17 rfl rfl)
theorem dX39_call_252 : decode cX39_call 252 = .ok (.i2l, 1) := dk_133 (dk_at dksX39_call_8 20 rfl rfl)
theorem dX39_call_253 : decode cX39_call 253 = .ok (.lreturn, 1) := dk_173 (dk_at dksX39_call_8 21 rfl rfl)
theorem dX39_call_254 : decode cX39_call 254 = .ok (.aload_n 0, 1) := dk_42 (dk_at dksX39_call_8 22 rfl rfl)
theorem dX39_call_255 : decode cX39_call 255 = .ok (.getfield 9, 3) := dk_180 0 9 (dk_at dksX39_call_9 0 rfl rfl)
theorem dX39_call_258 : decode cX39_call 258 = .ok (.iload_n 3, 1) := dk_29 (dk_at dksX39_call_9 3 rfl rfl)
theorem dX39_call_259 : decode cX39_call 259 = .ok (.iload 4, 2) := dk_21 4 (dk_at dksX39_call_9 4 rfl rfl)
theorem dX39_call_261 : decode cX39_call 261 = .ok (.aload_n 2, 1) := dk_44 (dk_at dksX39_call_9 6 rfl rfl)
theorem dX39_call_262 : decode cX39_call 262 = .ok (.iconst 2, 1) := dk_5 (dk_at dksX39_call_9 7 rfl rfl)
theorem dX39_call_263 : decode cX39_call 263 = .ok (.laload, 1) := dk_47 (dk_at dksX39_call_9 8 rfl rfl)
theorem dX39_call_264 : decode cX39_call 264 = .ok (.l2i, 1) := dk_136 (dk_at dksX39_call_9 9 rfl rfl)
theorem dX39_call_265 : decode cX39_call 265 = .ok (.invokevirtual 104, 3) := dk_182 0 104 (dk_at dksX39_call_9 10 rfl rfl)
theorem dX39_call_268 : decode cX39_call 268 = .ok (.invokestatic 72, 3) := dk_184 0 72 (dk_at dksX39_call_9 13 rfl rfl)
theorem dX39_call_271 : decode cX39_call 271 = .ok (.lreturn, 1) := dk_173 (dk_at dksX39_call_9 16 rfl rfl)
theorem dX39_call_272 : decode cX39_call 272 = .ok (.aload_n 0, 1) := dk_42 (dk_at dksX39_call_9 17 rfl rfl)
theorem dX39_call_273 : decode cX39_call 273 = .ok (.getfield 9, 3) := dk_180 0 9 (dk_at dksX39_call_9 18 rfl rfl)
theorem dX39_call_276 : decode cX39_call 276 = .ok (.iload_n 3, 1) := dk_29 (dk_at dksX39_call_9 21 rfl rfl)
theorem dX39_call_277 : decode cX39_call 277 = .ok (.iload 4, 2) := dk_21 4 (dk_at dksX39_call_9 22 rfl rfl)
theorem dX39_call_279 : decode cX39_call 279 = .ok (.invokevirtual 107, 3) := dk_182 0 107 (dk_at dksX39_call_10 0 rfl rfl)
theorem dX39_call_282 : decode cX39_call 282 = .ok (.i2l, 1) := dk_133 (dk_at dksX39_call_10 3 rfl rfl)
theorem dX39_call_283 : decode cX39_call 283 = .ok (.lreturn, 1) := dk_173 (dk_at dksX39_call_10 4 rfl rfl)
theorem dX39_call_284 : decode cX39_call 284 = .ok (.aload_n 0, 1) := dk_42 (dk_at dksX39_call_10 5 rfl rfl)
theorem dX39_call_285 : decode cX39_call 285 = .ok (.getfield 9, 3) := dk_180 0 9 (dk_at dksX39_call_10 6 rfl rfl)
theorem dX39_call_288 : decode cX39_call 288 = .ok (.iload_n 3, 1) := dk_29 (dk_at dksX39_call_10 9 rfl rfl)
theorem dX39_call_289 : decode cX39_call 289 = .ok (.iload 4, 2) := dk_21 4 (dk_at dksX39_call_10 10 rfl rfl)
theorem dX39_call_291 : decode cX39_call 291 = .ok (.invokevirtual 110, 3) := dk_182 0 110 (dk_at dksX39_call_10 12 rfl rfl)
theorem dX39_call_294 : decode cX39_call 294 = .ok (.i2l, 1) := dk_133 (dk_at dksX39_call_10 15 rfl rfl)
theorem dX39_call_295 : decode cX39_call 295 = .ok (.lreturn, 1) := dk_173 (dk_at dksX39_call_10 16 rfl rfl)
theorem dX39_call_296 : decode cX39_call 296 = .ok (.aload_n 0, 1) := dk_42 (dk_at dksX39_call_10 17 rfl rfl)
theorem dX39_call_297 : decode cX39_call 297 = .ok (.getfield 9, 3) := dk_180 0 9 (dk_at dksX39_call_10 18 rfl rfl)
theorem dX39_call_300 : decode cX39_call 300 = .ok (.iload_n 3, 1) := dk_29 (dk_at dksX39_call_10 21 rfl rfl)
theorem dX39_call_301 : decode cX39_call 301 = .ok (.invokevirtual 112, 3) := dk_182 0 112 (dk_at dksX39_call_11 0 rfl rfl)
theorem dX39_call_304 : decode cX39_call 304 = .ok (.i2l, 1) := dk_133 (dk_at dksX39_call_11 3 rfl rfl)
theorem dX39_call_305 : decode cX39_call 305 = .ok (.lreturn, 1) := dk_173 (dk_at dksX39_call_11 4 rfl rfl)
theorem dX39_call_306 : decode cX39_call 306 = .ok (.aload_n 0, 1) := dk_42 (dk_at dksX39_call_11 5 rfl rfl)
theorem dX39_call_307 : decode cX39_call 307 = .ok (.getfield 9, 3) := dk_180 0 9 (dk_at dksX39_call_11 6 rfl rfl)
theorem dX39_call_310 : decode cX39_call 310 = .ok (.iload_n 3, 1) := dk_29 (dk_at dksX39_call_11 9 rfl rfl)
theorem dX39_call_311 : decode cX39_call 311 = .ok (.iload 4, 2) := dk_21 4 (dk_at dksX39_call_11 10 rfl rfl)
theorem dX39_call_313 : decode cX39_call 313 = .ok (.invokevirtual 114, 3) := dk_182 0 114 (dk_at dksX39_call_11 12 rfl rfl)
theorem dX39_call_316 : decode cX39_call 316 = .ok (.i2l, 1) := dk_133 (dk_at dksX39_call_11 15 rfl rfl)
theorem dX39_call_317 : decode cX39_call 317 = .ok (.lreturn, 1) := dk_173 (dk_at dksX39_call_11 16 rfl rfl)
theorem q445 : (Jvm.Cond.initialized "WasteHouse$TicketRoom") ∈ lw_all := lw_g (lw_at lw_m1 53 rfl) rfl
theorem q2023 : (Jvm.Cond.selects "WasteHouse$TicketRoom" ({ cls := "java/lang/Object", name := "getClass", desc := "()Ljava/lang/Class;" } : Jvm.MethodName) ({ cls := "java/lang/Object", name := "getClass", desc := "()Ljava/lang/Class;" } : Jvm.MethodName)) ∈ lw_all := lw_g (lw_at lw_m7 191 rfl) rfl
theorem q2145 : (Jvm.Cond.instantiable "WasteHouse$TicketRoom" (4 : Nat)) ∈ lw_all := lw_g (lw_at lw_m8 73 rfl) rfl
theorem q2147 : (Jvm.Cond.instanceMethod ({ cls := "WasteHouse$TicketRoom", name := "<init>", desc := "(LWasteHouse$TicketChain;)V" } : Jvm.MethodName)) ∈ lw_all := lw_g (lw_at lw_m8 75 rfl) rfl
theorem q2148 : (Jvm.Cond.code ({ cls := "WasteHouse$TicketRoom", name := "<init>", desc := "(LWasteHouse$TicketChain;)V" } : Jvm.MethodName) prog_54_method_1_code (2 : Nat) (Option.none : Option Jvm.ClassFile.FieldType)) ∈ lw_all := lw_g (lw_at lw_m8 76 rfl) rfl
theorem q2149 : (Jvm.Cond.stringRef "WasteHouse$TicketRoom" (1 : Nat) "tickets") ∈ lw_tbl := lw_at lw_m8 77 rfl
theorem q2150 : (Jvm.Cond.methodLink "WasteHouse$TicketRoom" (3 : Nat) ({ cls := "WasteHouse$Room", name := "<init>", desc := "(Ljava/lang/String;)V" } : Jvm.MethodName)) ∈ lw_all := lw_g (lw_at lw_m8 78 rfl) rfl
theorem q2151 : (Jvm.Cond.stringRef "WasteHouse$TicketRoom" (15 : Nat) "follows") ∈ lw_tbl := lw_at lw_m8 79 rfl
theorem q2152 : (Jvm.Cond.stringRef "WasteHouse$TicketRoom" (17 : Nat) "iil") ∈ lw_tbl := lw_at lw_m8 80 rfl
theorem q2153 : (Jvm.Cond.methodLink "WasteHouse$TicketRoom" (19 : Nat) ({ cls := "WasteHouse$TicketRoom", name := "add", desc := "(Ljava/lang/String;Ljava/lang/String;)V" } : Jvm.MethodName)) ∈ lw_all := lw_g (lw_at lw_m8 81 rfl) rfl
theorem q2154 : (Jvm.Cond.sameMethod "WasteHouse$TicketRoom" "WasteHouse$Room" "add" "(Ljava/lang/String;Ljava/lang/String;)V") ∈ lw_all := lw_g (lw_at lw_m8 82 rfl) rfl
theorem q2155 : (Jvm.Cond.selects "WasteHouse$TicketRoom" ({ cls := "WasteHouse$TicketRoom", name := "add", desc := "(Ljava/lang/String;Ljava/lang/String;)V" } : Jvm.MethodName) ({ cls := "WasteHouse$Room", name := "add", desc := "(Ljava/lang/String;Ljava/lang/String;)V" } : Jvm.MethodName)) ∈ lw_all := lw_g (lw_at lw_m8 83 rfl) rfl
theorem q2156 : (Jvm.Cond.stringRef "WasteHouse$TicketRoom" (23 : Nat) "ticket") ∈ lw_tbl := lw_at lw_m8 84 rfl
theorem q2157 : (Jvm.Cond.stringRef "WasteHouse$TicketRoom" (25 : Nat) "iillli") ∈ lw_tbl := lw_at lw_m8 85 rfl
theorem q2158 : (Jvm.Cond.stringRef "WasteHouse$TicketRoom" (27 : Nat) "correct") ∈ lw_tbl := lw_at lw_m8 86 rfl
theorem q2159 : (Jvm.Cond.stringRef "WasteHouse$TicketRoom" (29 : Nat) "iili") ∈ lw_tbl := lw_at lw_m8 87 rfl
theorem q2160 : (Jvm.Cond.stringRef "WasteHouse$TicketRoom" (31 : Nat) "voids") ∈ lw_tbl := lw_at lw_m8 88 rfl
theorem q2161 : (Jvm.Cond.stringRef "WasteHouse$TicketRoom" (33 : Nat) "ii") ∈ lw_tbl := lw_at lw_m8 89 rfl
theorem q2162 : (Jvm.Cond.stringRef "WasteHouse$TicketRoom" (35 : Nat) "at") ∈ lw_tbl := lw_at lw_m8 90 rfl
theorem q2163 : (Jvm.Cond.stringRef "WasteHouse$TicketRoom" (37 : Nat) "number") ∈ lw_tbl := lw_at lw_m8 91 rfl
theorem q2164 : (Jvm.Cond.stringRef "WasteHouse$TicketRoom" (39 : Nat) "i") ∈ lw_tbl := lw_at lw_m8 92 rfl
theorem q2165 : (Jvm.Cond.stringRef "WasteHouse$TicketRoom" (41 : Nat) "gap") ∈ lw_tbl := lw_at lw_m8 93 rfl
theorem q2166 : (Jvm.Cond.stringRef "WasteHouse$TicketRoom" (43 : Nat) "rows") ∈ lw_tbl := lw_at lw_m8 94 rfl
theorem q2167 : (Jvm.Cond.stringRef "WasteHouse$TicketRoom" (45 : Nat) "") ∈ lw_tbl := lw_at lw_m8 95 rfl
theorem q2168 : (Jvm.Cond.stringRef "WasteHouse$TicketRoom" (47 : Nat) "made") ∈ lw_tbl := lw_at lw_m8 96 rfl
theorem q2169 : (Jvm.Cond.stringRef "WasteHouse$TicketRoom" (49 : Nat) "split") ∈ lw_tbl := lw_at lw_m8 97 rfl
theorem q2170 : (Jvm.Cond.stringRef "WasteHouse$TicketRoom" (51 : Nat) "share") ∈ lw_tbl := lw_at lw_m8 98 rfl
theorem q2171 : (Jvm.Cond.stringRef "WasteHouse$TicketRoom" (53 : Nat) "print") ∈ lw_tbl := lw_at lw_m8 99 rfl
theorem q2172 : (Jvm.Cond.stringRef "WasteHouse$TicketRoom" (55 : Nat) "poke") ∈ lw_tbl := lw_at lw_m8 100 rfl
theorem q2173 : (Jvm.Cond.stringRef "WasteHouse$TicketRoom" (57 : Nat) "iii") ∈ lw_tbl := lw_at lw_m8 101 rfl
theorem q2174 : (Jvm.Cond.stringRef "WasteHouse$TicketRoom" (59 : Nat) "byte") ∈ lw_tbl := lw_at lw_m8 102 rfl
theorem q2175 : (Jvm.Cond.stringRef "WasteHouse$TicketRoom" (61 : Nat) "digest") ∈ lw_tbl := lw_at lw_m8 103 rfl
theorem q2176 : (Jvm.Cond.stringRef "WasteHouse$TicketRoom" (63 : Nat) "check") ∈ lw_tbl := lw_at lw_m8 104 rfl
theorem q2177 : (Jvm.Cond.stringRef "WasteHouse$TicketRoom" (65 : Nat) "root") ∈ lw_tbl := lw_at lw_m8 105 rfl
theorem q2178 : (Jvm.Cond.fieldLink "WasteHouse$TicketRoom" (9 : Nat) "WasteHouse$TicketRoom" "chain" "LWasteHouse$TicketChain;") ∈ lw_all := lw_g (lw_at lw_m8 106 rfl) rfl
theorem q2179 : (Jvm.Cond.laysFinal "WasteHouse$TicketRoom" "WasteHouse$TicketRoom" "chain" "LWasteHouse$TicketChain;") ∈ lw_all := lw_g (lw_at lw_m8 107 rfl) rfl
theorem q2180 : (Jvm.Cond.soleField "WasteHouse$TicketRoom" "chain") ∈ lw_all := lw_g (lw_at lw_m8 108 rfl) rfl
theorem q2181 : (Jvm.Cond.laysFinal "WasteHouse$TicketRoom" "WasteHouse$Room" "name" "Ljava/lang/String;") ∈ lw_all := lw_g (lw_at lw_m8 109 rfl) rfl
theorem q2182 : (Jvm.Cond.laysFinal "WasteHouse$TicketRoom" "WasteHouse$Room" "words" "Ljava/util/ArrayList;") ∈ lw_all := lw_g (lw_at lw_m8 110 rfl) rfl
theorem q2183 : (Jvm.Cond.laysFinal "WasteHouse$TicketRoom" "WasteHouse$Room" "needs" "Ljava/util/ArrayList;") ∈ lw_all := lw_g (lw_at lw_m8 111 rfl) rfl
theorem q2184 : (Jvm.Cond.superclass "WasteHouse$TicketRoom" "WasteHouse$Room") ∈ lw_all := lw_g (lw_at lw_m8 112 rfl) rfl
theorem q3066 : (Jvm.Cond.selects "WasteHouse$TicketRoom" ({ cls := "WasteHouse$Room", name := "find", desc := "(Ljava/lang/String;)I" } : Jvm.MethodName) ({ cls := "WasteHouse$Room", name := "find", desc := "(Ljava/lang/String;)I" } : Jvm.MethodName)) ∈ lw_all := lw_g (lw_at lw_m12 34 rfl) rfl
theorem q3133 : (Jvm.Cond.selects "WasteHouse$TicketRoom" ({ cls := "java/lang/Object", name := "equals", desc := "(Ljava/lang/Object;)Z" } : Jvm.MethodName) ({ cls := "java/lang/Object", name := "equals", desc := "(Ljava/lang/Object;)Z" } : Jvm.MethodName)) ∈ lw_all := lw_g (lw_at lw_m12 101 rfl) rfl
theorem q3180 : (Jvm.Cond.selects "WasteHouse$TicketRoom" ({ cls := "WasteHouse$Room", name := "need", desc := "(I)Ljava/lang/String;" } : Jvm.MethodName) ({ cls := "WasteHouse$Room", name := "need", desc := "(I)Ljava/lang/String;" } : Jvm.MethodName)) ∈ lw_all := lw_g (lw_at lw_m12 148 rfl) rfl
theorem q3651 : (Jvm.Cond.selects "WasteHouse$TicketRoom" ({ cls := "java/lang/Object", name := "hashCode", desc := "()I" } : Jvm.MethodName) ({ cls := "java/lang/Object", name := "hashCode", desc := "()I" } : Jvm.MethodName)) ∈ lw_all := lw_g (lw_at lw_m14 139 rfl) rfl
theorem q6463 : (Jvm.Cond.selects "WasteHouse$TicketRoom" ({ cls := "WasteHouse$Room", name := "call", desc := "(I[J)J" } : Jvm.MethodName) ({ cls := "WasteHouse$TicketRoom", name := "call", desc := "(I[J)J" } : Jvm.MethodName)) ∈ lw_all := lw_g (lw_at lw_m26 71 rfl) rfl
theorem q6464 : (Jvm.Cond.instanceMethod ({ cls := "WasteHouse$TicketRoom", name := "call", desc := "(I[J)J" } : Jvm.MethodName)) ∈ lw_all := lw_g (lw_at lw_m26 72 rfl) rfl
theorem q6465 : (Jvm.Cond.code ({ cls := "WasteHouse$TicketRoom", name := "call", desc := "(I[J)J" } : Jvm.MethodName) prog_54_method_2_code (5 : Nat) (Option.some Jvm.ClassFile.FieldType.long)) ∈ lw_all := lw_g (lw_at lw_m26 73 rfl) rfl
theorem q6466 : (Jvm.Cond.methodLink "WasteHouse$TicketRoom" (67 : Nat) ({ cls := "WasteHouse$TicketChain", name := "follows", desc := "(IIJ)Z" } : Jvm.MethodName)) ∈ lw_all := lw_g (lw_at lw_m26 74 rfl) rfl
theorem q6473 : (Jvm.Cond.methodLink "WasteHouse$TicketRoom" (72 : Nat) ({ cls := "WasteHouse$TicketRoom", name := "bit", desc := "(Z)J" } : Jvm.MethodName)) ∈ lw_all := lw_g (lw_at lw_m26 81 rfl) rfl
theorem q6474 : (Jvm.Cond.sameMethod "WasteHouse$TicketRoom" "WasteHouse$Room" "bit" "(Z)J") ∈ lw_all := lw_g (lw_at lw_m26 82 rfl) rfl
theorem q6475 : (Jvm.Cond.methodLink "WasteHouse$TicketRoom" (76 : Nat) ({ cls := "WasteHouse$TicketChain", name := "ticket", desc := "(IIJJJI)I" } : Jvm.MethodName)) ∈ lw_all := lw_g (lw_at lw_m26 83 rfl) rfl
theorem q6476 : (Jvm.Cond.methodLink "WasteHouse$TicketRoom" (79 : Nat) ({ cls := "WasteHouse$TicketChain", name := "correct", desc := "(IIJI)I" } : Jvm.MethodName)) ∈ lw_all := lw_g (lw_at lw_m26 84 rfl) rfl
theorem q6486 : (Jvm.Cond.methodLink "WasteHouse$TicketRoom" (82 : Nat) ({ cls := "WasteHouse$TicketChain", name := "voids", desc := "(II)I" } : Jvm.MethodName)) ∈ lw_all := lw_g (lw_at lw_m26 94 rfl) rfl
theorem q6494 : (Jvm.Cond.methodLink "WasteHouse$TicketRoom" (85 : Nat) ({ cls := "WasteHouse$TicketChain", name := "at", desc := "(II)J" } : Jvm.MethodName)) ∈ lw_all := lw_g (lw_at lw_m26 102 rfl) rfl
theorem q6498 : (Jvm.Cond.methodLink "WasteHouse$TicketRoom" (88 : Nat) ({ cls := "WasteHouse$TicketChain", name := "number", desc := "(I)I" } : Jvm.MethodName)) ∈ lw_all := lw_g (lw_at lw_m26 106 rfl) rfl
theorem q6502 : (Jvm.Cond.methodLink "WasteHouse$TicketRoom" (91 : Nat) ({ cls := "WasteHouse$TicketChain", name := "gap", desc := "(I)I" } : Jvm.MethodName)) ∈ lw_all := lw_g (lw_at lw_m26 110 rfl) rfl
theorem q6508 : (Jvm.Cond.methodLink "WasteHouse$TicketRoom" (93 : Nat) ({ cls := "WasteHouse$TicketChain", name := "rows", desc := "()I" } : Jvm.MethodName)) ∈ lw_all := lw_g (lw_at lw_m26 116 rfl) rfl
theorem q6512 : (Jvm.Cond.methodLink "WasteHouse$TicketRoom" (96 : Nat) ({ cls := "WasteHouse$TicketChain", name := "made", desc := "()I" } : Jvm.MethodName)) ∈ lw_all := lw_g (lw_at lw_m26 120 rfl) rfl
theorem q6516 : (Jvm.Cond.methodLink "WasteHouse$TicketRoom" (98 : Nat) ({ cls := "WasteHouse$TicketChain", name := "split", desc := "(IIJ)Z" } : Jvm.MethodName)) ∈ lw_all := lw_g (lw_at lw_m26 124 rfl) rfl
theorem q6525 : (Jvm.Cond.methodLink "WasteHouse$TicketRoom" (100 : Nat) ({ cls := "WasteHouse$TicketChain", name := "share", desc := "(II)J" } : Jvm.MethodName)) ∈ lw_all := lw_g (lw_at lw_m26 133 rfl) rfl
theorem q6526 : (Jvm.Cond.methodLink "WasteHouse$TicketRoom" (102 : Nat) ({ cls := "WasteHouse$TicketChain", name := "print", desc := "(II)I" } : Jvm.MethodName)) ∈ lw_all := lw_g (lw_at lw_m26 134 rfl) rfl
theorem q6569 : (Jvm.Cond.methodLink "WasteHouse$TicketRoom" (104 : Nat) ({ cls := "WasteHouse$TicketChain", name := "poke", desc := "(III)Z" } : Jvm.MethodName)) ∈ lw_all := lw_g (lw_at lw_m26 177 rfl) rfl
theorem q6581 : (Jvm.Cond.methodLink "WasteHouse$TicketRoom" (107 : Nat) ({ cls := "WasteHouse$TicketChain", name := "byteAt", desc := "(II)I" } : Jvm.MethodName)) ∈ lw_all := lw_g (lw_at lw_m26 189 rfl) rfl
theorem q6585 : (Jvm.Cond.methodLink "WasteHouse$TicketRoom" (110 : Nat) ({ cls := "WasteHouse$TicketChain", name := "digest", desc := "(II)I" } : Jvm.MethodName)) ∈ lw_all := lw_g (lw_at lw_m26 193 rfl) rfl
theorem q6589 : (Jvm.Cond.methodLink "WasteHouse$TicketRoom" (112 : Nat) ({ cls := "WasteHouse$TicketChain", name := "check", desc := "(I)I" } : Jvm.MethodName)) ∈ lw_all := lw_g (lw_at lw_m26 197 rfl) rfl
theorem q6590 : (Jvm.Cond.methodLink "WasteHouse$TicketRoom" (114 : Nat) ({ cls := "WasteHouse$TicketChain", name := "root", desc := "(II)I" } : Jvm.MethodName)) ∈ lw_all := lw_g (lw_at lw_m26 198 rfl) rfl
theorem q9617 : (Jvm.Cond.castable "WasteHouse$TicketRoom" "WasteHouse$Room") ∈ lw_tbl := lw_at lw_m39 105 rfl
theorem q9662 : (Jvm.Cond.castable "WasteHouse$TicketRoom" "java/lang/Object") ∈ lw_tbl := lw_at lw_m39 150 rfl
theorem in_X39 : ∀ w ∈ wsX390, w ∈ lw_all := lw_in wsX390 [2181, 2182, 2183, 2179] (by decide +kernel) (by decide +kernel)
