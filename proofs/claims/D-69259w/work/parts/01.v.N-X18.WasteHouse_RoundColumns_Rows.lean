/-! WasteHouse$RoundColumns$Rows -/
set_option maxRecDepth 100000
def RX18 : String := "WasteHouse$RoundColumns$Rows"
def TX18 : u_T := fun k => match k with
  | 0 => ("WasteHouse$RoundColumns$Rows", "codes", "[I", true)
  | 1 => ("WasteHouse$RoundColumns$Rows", "costs", "[I", true)
  | 2 => ("WasteHouse$RoundColumns$Rows", "times", "[I", true)
  | 3 => ("WasteHouse$RoundColumns$Rows", "nexts", "[I", true)
  | 4 => ("WasteHouse$RoundColumns$Rows", "count", "I", false)
  | _ => ("WasteHouse$RoundColumns$Rows", "firsts", "[I", true)
def tyX18 : Nat → FieldType := fun k => match k with
  | 0 => .array .int
  | 1 => .array .int
  | 2 => .array .int
  | 3 => .array .int
  | 4 => .int
  | _ => .array .int
abbrev wsX180 : List Cond := u_ws RX18 TX18 6
theorem nmX18 : ∀ a, a < 6 → ∀ b, b < 6 → a ≠ b → (TX18 a).2.1 ≠ (TX18 b).2.1 := by decide +kernel
theorem tyX18_ok : ∀ k, k < 6 → parseFieldDescriptor (TX18 k).2.2.1 = some (tyX18 k) := by decide +kernel
abbrev cX18_init : ByteArray := prog_39_method_1_code
def yX18_init : MethodName := ⟨RX18, "<init>", "()V"⟩
def dkwX18_init_2 : List UInt8 := [181, 0, 24, 177]
abbrev dktX18_init_2 : List UInt8 := dkwX18_init_2 ++ []
def dkwX18_init_1 : List UInt8 := [17, 7, 208, 188, 10, 181, 0, 18, 42, 17, 7, 208, 188, 10, 181, 0, 21, 42, 17, 1, 128, 188, 10]
abbrev dktX18_init_1 : List UInt8 := dkwX18_init_1 ++ dktX18_init_2
def dkwX18_init_0 : List UInt8 := [42, 183, 0, 3, 42, 17, 7, 208, 188, 10, 181, 0, 9, 42, 17, 7, 208, 188, 10, 181, 0, 15, 42]
abbrev dktX18_init_0 : List UInt8 := dkwX18_init_0 ++ dktX18_init_1
theorem dksX18_init_0 : cX18_init.data.toList.drop 0 = dktX18_init_0 := by decide +kernel
theorem dksX18_init_1 : cX18_init.data.toList.drop 23 = dktX18_init_1 := dk_seg dksX18_init_0 23 rfl rfl
theorem dksX18_init_2 : cX18_init.data.toList.drop 46 = dktX18_init_2 := dk_seg dksX18_init_1 23 rfl rfl
theorem dX18_init_0 : decode cX18_init 0 = .ok (.aload_n 0, 1) := dk_42 (dk_at dksX18_init_0 0 rfl rfl)
theorem dX18_init_1 : decode cX18_init 1 = .ok (.invokespecial 3, 3) := dk_183 0 3 (dk_at dksX18_init_0 1 rfl rfl)
theorem dX18_init_4 : decode cX18_init 4 = .ok (.aload_n 0, 1) := dk_42 (dk_at dksX18_init_0 4 rfl rfl)
theorem dX18_init_5 : decode cX18_init 5 = .ok (.sipush 2000, 3) := dk_17 7 208 (dk_at dksX18_init_0 5 rfl rfl)
theorem dX18_init_8 : decode cX18_init 8 = .ok (.newarray .int, 2) := dk_188_10 (dk_at dksX18_init_0 8 rfl rfl)
theorem dX18_init_10 : decode cX18_init 10 = .ok (.putfield 9, 3) := dk_181 0 9 (dk_at dksX18_init_0 10 rfl rfl)
theorem dX18_init_13 : decode cX18_init 13 = .ok (.aload_n 0, 1) := dk_42 (dk_at dksX18_init_0 13 rfl rfl)
theorem dX18_init_14 : decode cX18_init 14 = .ok (.sipush 2000, 3) := dk_17 7 208 (dk_at dksX18_init_0 14 rfl rfl)
theorem dX18_init_17 : decode cX18_init 17 = .ok (.newarray .int, 2) := dk_188_10 (dk_at dksX18_init_0 17 rfl rfl)
theorem dX18_init_19 : decode cX18_init 19 = .ok (.putfield 15, 3) := dk_181 0 15 (dk_at dksX18_init_0 19 rfl rfl)
theorem dX18_init_22 : decode cX18_init 22 = .ok (.aload_n 0, 1) := dk_42 (dk_at dksX18_init_0 22 rfl rfl)
theorem dX18_init_23 : decode cX18_init 23 = .ok (.sipush 2000, 3) := dk_17 7 208 (dk_at dksX18_init_1 0 rfl rfl)
theorem dX18_init_26 : decode cX18_init 26 = .ok (.newarray .int, 2) := dk_188_10 (dk_at dksX18_init_1 3 rfl rfl)
theorem dX18_init_28 : decode cX18_init 28 = .ok (.putfield 18, 3) := dk_181 0 18 (dk_at dksX18_init_1 5 rfl rfl)
theorem dX18_init_31 : decode cX18_init 31 = .ok (.aload_n 0, 1) := dk_42 (dk_at dksX18_init_1 8 rfl rfl)
theorem dX18_init_32 : decode cX18_init 32 = .ok (.sipush 2000, 3) := dk_17 7 208 (dk_at dksX18_init_1 9 rfl rfl)
theorem dX18_init_35 : decode cX18_init 35 = .ok (.newarray .int, 2) := dk_188_10 (dk_at dksX18_init_1 12 rfl rfl)
theorem dX18_init_37 : decode cX18_init 37 = .ok (.putfield 21, 3) := dk_181 0 21 (dk_at dksX18_init_1 14 rfl rfl)
theorem dX18_init_40 : decode cX18_init 40 = .ok (.aload_n 0, 1) := dk_42 (dk_at dksX18_init_1 17 rfl rfl)
theorem dX18_init_41 : decode cX18_init 41 = .ok (.sipush 384, 3) := dk_17 1 128 (dk_at dksX18_init_1 18 rfl rfl)
theorem dX18_init_44 : decode cX18_init 44 = .ok (.newarray .int, 2) := dk_188_10 (dk_at dksX18_init_1 21 rfl rfl)
theorem dX18_init_46 : decode cX18_init 46 = .ok (.putfield 24, 3) := dk_181 0 24 (dk_at dksX18_init_2 0 rfl rfl)
theorem dX18_init_49 : decode cX18_init 49 = .ok (.return_, 1) := dk_177 (dk_at dksX18_init_2 3 rfl rfl)
abbrev cX18_clear : ByteArray := prog_39_method_2_code
def yX18_clear : MethodName := ⟨RX18, "clear", "()V"⟩
def dkwX18_clear_1 : List UInt8 := [167, 255, 239, 177]
abbrev dktX18_clear_1 : List UInt8 := dkwX18_clear_1 ++ []
def dkwX18_clear_0 : List UInt8 := [42, 3, 181, 0, 27, 3, 60, 27, 17, 1, 128, 162, 0, 16, 42, 180, 0, 24, 27, 2, 79, 132, 1, 1]
abbrev dktX18_clear_0 : List UInt8 := dkwX18_clear_0 ++ dktX18_clear_1
theorem dksX18_clear_0 : cX18_clear.data.toList.drop 0 = dktX18_clear_0 := by decide +kernel
theorem dksX18_clear_1 : cX18_clear.data.toList.drop 24 = dktX18_clear_1 := dk_seg dksX18_clear_0 24 rfl rfl
theorem dX18_clear_0 : decode cX18_clear 0 = .ok (.aload_n 0, 1) := dk_42 (dk_at dksX18_clear_0 0 rfl rfl)
theorem dX18_clear_1 : decode cX18_clear 1 = .ok (.iconst 0, 1) := dk_3 (dk_at dksX18_clear_0 1 rfl rfl)
theorem dX18_clear_2 : decode cX18_clear 2 = .ok (.putfield 27, 3) := dk_181 0 27 (dk_at dksX18_clear_0 2 rfl rfl)
theorem dX18_clear_5 : decode cX18_clear 5 = .ok (.iconst 0, 1) := dk_3 (dk_at dksX18_clear_0 5 rfl rfl)
theorem dX18_clear_6 : decode cX18_clear 6 = .ok (.istore_n 1, 1) := dk_60 (dk_at dksX18_clear_0 6 rfl rfl)
theorem dX18_clear_7 : decode cX18_clear 7 = .ok (.iload_n 1, 1) := dk_27 (dk_at dksX18_clear_0 7 rfl rfl)
theorem dX18_clear_8 : decode cX18_clear 8 = .ok (.sipush 384, 3) := dk_17 1 128 (dk_at dksX18_clear_0 8 rfl rfl)
theorem dX18_clear_11 : decode cX18_clear 11 = .ok (.if_icmp .ge 16, 3) := dk_162 0 16 (dk_at dksX18_clear_0 11 rfl rfl)
theorem dX18_clear_14 : decode cX18_clear 14 = .ok (.aload_n 0, 1) := dk_42 (dk_at dksX18_clear_0 14 rfl rfl)
theorem dX18_clear_15 : decode cX18_clear 15 = .ok (.getfield 24, 3) := dk_180 0 24 (dk_at dksX18_clear_0 15 rfl rfl)
theorem dX18_clear_18 : decode cX18_clear 18 = .ok (.iload_n 1, 1) := dk_27 (dk_at dksX18_clear_0 18 rfl rfl)
theorem dX18_clear_19 : decode cX18_clear 19 = .ok (.iconst (-1), 1) := dk_2 (dk_at dksX18_clear_0 19 rfl rfl)
theorem dX18_clear_20 : decode cX18_clear 20 = .ok (.iastore, 1) := dk_79 (dk_at dksX18_clear_0 20 rfl rfl)
theorem dX18_clear_21 : decode cX18_clear 21 = .ok (.iinc 1 1, 3) := dk_132 1 1 (dk_at dksX18_clear_0 21 rfl rfl)
theorem dX18_clear_24 : decode cX18_clear 24 = .ok (.goto (-17), 3) := dk_167 255 239 (dk_at dksX18_clear_1 0 rfl rfl)
theorem dX18_clear_27 : decode cX18_clear 27 = .ok (.return_, 1) := dk_177 (dk_at dksX18_clear_1 3 rfl rfl)
abbrev cX18_offer : ByteArray := prog_39_method_5_code
def yX18_offer : MethodName := ⟨RX18, "offer", "(IIIII)V"⟩
def dkwX18_offer_4 : List UInt8 := [21, 6, 46, 79, 42, 180, 0, 24, 21, 6, 42, 89, 180, 0, 27, 90, 4, 96, 181, 0, 27, 79, 177]
abbrev dktX18_offer_4 : List UInt8 := dkwX18_offer_4 ++ []
def dkwX18_offer_3 : List UInt8 := [42, 180, 0, 18, 42, 180, 0, 27, 21, 5, 79, 42, 180, 0, 21, 42, 180, 0, 27, 42, 180, 0, 24]
abbrev dktX18_offer_3 : List UInt8 := dkwX18_offer_3 ++ dktX18_offer_4
def dkwX18_offer_2 : List UInt8 := [167, 255, 226, 42, 180, 0, 9, 42, 180, 0, 27, 29, 79, 42, 180, 0, 15, 42, 180, 0, 27, 21, 4, 79]
abbrev dktX18_offer_2 : List UInt8 := dkwX18_offer_2 ++ dktX18_offer_3
def dkwX18_offer_1 : List UInt8 := [21, 7, 29, 21, 4, 21, 5, 182, 0, 31, 153, 0, 4, 177, 42, 180, 0, 21, 21, 7, 46, 54, 7]
abbrev dktX18_offer_1 : List UInt8 := dkwX18_offer_1 ++ dktX18_offer_2
def dkwX18_offer_0 : List UInt8 := [16, 6, 27, 104, 28, 96, 54, 6, 42, 180, 0, 24, 21, 6, 46, 54, 7, 21, 7, 2, 159, 0, 30, 42]
abbrev dktX18_offer_0 : List UInt8 := dkwX18_offer_0 ++ dktX18_offer_1
theorem dksX18_offer_0 : cX18_offer.data.toList.drop 0 = dktX18_offer_0 := by decide +kernel
theorem dksX18_offer_1 : cX18_offer.data.toList.drop 24 = dktX18_offer_1 := dk_seg dksX18_offer_0 24 rfl rfl
theorem dksX18_offer_2 : cX18_offer.data.toList.drop 47 = dktX18_offer_2 := dk_seg dksX18_offer_1 23 rfl rfl
theorem dksX18_offer_3 : cX18_offer.data.toList.drop 71 = dktX18_offer_3 := dk_seg dksX18_offer_2 24 rfl rfl
theorem dksX18_offer_4 : cX18_offer.data.toList.drop 94 = dktX18_offer_4 := dk_seg dksX18_offer_3 23 rfl rfl
theorem dX18_offer_0 : decode cX18_offer 0 = .ok (.bipush 6, 2) := dk_16 6 (dk_at dksX18_offer_0 0 rfl rfl)
theorem dX18_offer_2 : decode cX18_offer 2 = .ok (.iload_n 1, 1) := dk_27 (dk_at dksX18_offer_0 2 rfl rfl)
theorem dX18_offer_3 : decode cX18_offer 3 = .ok (.imul, 1) := dk_104 (dk_at dksX18_offer_0 3 rfl rfl)
theorem dX18_offer_4 : decode cX18_offer 4 = .ok (.iload_n 2, 1) := dk_28 (dk_at dksX18_offer_0 4 rfl rfl)
theorem dX18_offer_5 : decode cX18_offer 5 = .ok (.iadd, 1) := dk_96 (dk_at dksX18_offer_0 5 rfl rfl)
theorem dX18_offer_6 : decode cX18_offer 6 = .ok (.istore 6, 2) := dk_54 6 (dk_at dksX18_offer_0 6 rfl rfl)
theorem dX18_offer_8 : decode cX18_offer 8 = .ok (.aload_n 0, 1) := dk_42 (dk_at dksX18_offer_0 8 rfl rfl)
theorem dX18_offer_9 : decode cX18_offer 9 = .ok (.getfield 24, 3) := dk_180 0 24 (dk_at dksX18_offer_0 9 rfl rfl)
theorem dX18_offer_12 : decode cX18_offer 12 = .ok (.iload 6, 2) := dk_21 6 (dk_at dksX18_offer_0 12 rfl rfl)
theorem dX18_offer_14 : decode cX18_offer 14 = .ok (.iaload, 1) := dk_46 (dk_at dksX18_offer_0 14 rfl rfl)
theorem dX18_offer_15 : decode cX18_offer 15 = .ok (.istore 7, 2) := dk_54 7 (dk_at dksX18_offer_0 15 rfl rfl)
theorem dX18_offer_17 : decode cX18_offer 17 = .ok (.iload 7, 2) := dk_21 7 (dk_at dksX18_offer_0 17 rfl rfl)
theorem dX18_offer_19 : decode cX18_offer 19 = .ok (.iconst (-1), 1) := dk_2 (dk_at dksX18_offer_0 19 rfl rfl)
theorem dX18_offer_20 : decode cX18_offer 20 = .ok (.if_icmp .eq 30, 3) := dk_159 0 30 (dk_at dksX18_offer_0 20 rfl rfl)
theorem dX18_offer_23 : decode cX18_offer 23 = .ok (.aload_n 0, 1) := dk_42 (dk_at dksX18_offer_0 23 rfl rfl)
theorem dX18_offer_24 : decode cX18_offer 24 = .ok (.iload 7, 2) := dk_21 7 (dk_at dksX18_offer_1 0 rfl rfl)
theorem dX18_offer_26 : decode cX18_offer 26 = .ok (.iload_n 3, 1) := dk_29 (dk_at dksX18_offer_1 2 rfl rfl)
theorem dX18_offer_27 : decode cX18_offer 27 = .ok (.iload 4, 2) := dk_21 4 (dk_at dksX18_offer_1 3 rfl rfl)
theorem dX18_offer_29 : decode cX18_offer 29 = .ok (.iload 5, 2) := dk_21 5 (dk_at dksX18_offer_1 5 rfl rfl)
theorem dX18_offer_31 : decode cX18_offer 31 = .ok (.invokevirtual 31, 3) := dk_182 0 31 (dk_at dksX18_offer_1 7 rfl rfl)
theorem dX18_offer_34 : decode cX18_offer 34 = .ok (.ifCond .eq 4, 3) := dk_153 0 4 (dk_at dksX18_offer_1 10 rfl rfl)
theorem dX18_offer_37 : decode cX18_offer 37 = .ok (.return_, 1) := dk_177 (dk_at dksX18_offer_1 13 rfl rfl)
theorem dX18_offer_38 : decode cX18_offer 38 = .ok (.aload_n 0, 1) := dk_42 (dk_at dksX18_offer_1 14 rfl rfl)
theorem dX18_offer_39 : decode cX18_offer 39 = .ok (.getfield 21, 3) := dk_180 0 21 (dk_at dksX18_offer_1 15 rfl rfl)
theorem dX18_offer_42 : decode cX18_offer 42 = .ok (.iload 7, 2) := dk_21 7 (dk_at dksX18_offer_1 18 rfl rfl)
theorem dX18_offer_44 : decode cX18_offer 44 = .ok (.iaload, 1) := dk_46 (dk_at dksX18_offer_1 20 rfl rfl)
theorem dX18_offer_45 : decode cX18_offer 45 = .ok (.istore 7, 2) := dk_54 7 (dk_at dksX18_offer_1 21 rfl rfl)
theorem dX18_offer_47 : decode cX18_offer 47 = .ok (.goto (-30), 3) := dk_167 255 226 (dk_at dksX18_offer_2 0 rfl rfl)
theorem dX18_offer_50 : decode cX18_offer 50 = .ok (.aload_n 0, 1) := dk_42 (dk_at dksX18_offer_2 3 rfl rfl)
theorem dX18_offer_51 : decode cX18_offer 51 = .ok (.getfield 9, 3) := dk_180 0 9 (dk_at dksX18_offer_2 4 rfl rfl)
theorem dX18_offer_54 : decode cX18_offer 54 = .ok (.aload_n 0, 1) := dk_42 (dk_at dksX18_offer_2 7 rfl rfl)
theorem dX18_offer_55 : decode cX18_offer 55 = .ok (.getfield 27, 3) := dk_180 0 27 (dk_at dksX18_offer_2 8 rfl rfl)
theorem dX18_offer_58 : decode cX18_offer 58 = .ok (.iload_n 3, 1) := dk_29 (dk_at dksX18_offer_2 11 rfl rfl)
theorem dX18_offer_59 : decode cX18_offer 59 = .ok (.iastore, 1) := dk_79 (dk_at dksX18_offer_2 12 rfl rfl)
theorem dX18_offer_60 : decode cX18_offer 60 = .ok (.aload_n 0, 1) := dk_42 (dk_at dksX18_offer_2 13 rfl rfl)
theorem dX18_offer_61 : decode cX18_offer 61 = .ok (.getfield 15, 3) := dk_180 0 15 (dk_at dksX18_offer_2 14 rfl rfl)
theorem dX18_offer_64 : decode cX18_offer 64 = .ok (.aload_n 0, 1) := dk_42 (dk_at dksX18_offer_2 17 rfl rfl)
theorem dX18_offer_65 : decode cX18_offer 65 = .ok (.getfield 27, 3) := dk_180 0 27 (dk_at dksX18_offer_2 18 rfl rfl)
theorem dX18_offer_68 : decode cX18_offer 68 = .ok (.iload 4, 2) := dk_21 4 (dk_at dksX18_offer_2 21 rfl rfl)
theorem dX18_offer_70 : decode cX18_offer 70 = .ok (.iastore, 1) := dk_79 (dk_at dksX18_offer_2 23 rfl rfl)
theorem dX18_offer_71 : decode cX18_offer 71 = .ok (.aload_n 0, 1) := dk_42 (dk_at dksX18_offer_3 0 rfl rfl)
theorem dX18_offer_72 : decode cX18_offer 72 = .ok (.getfield 18, 3) := dk_180 0 18 (dk_at dksX18_offer_3 1 rfl rfl)
theorem dX18_offer_75 : decode cX18_offer 75 = .ok (.aload_n 0, 1) := dk_42 (dk_at dksX18_offer_3 4 rfl rfl)
theorem dX18_offer_76 : decode cX18_offer 76 = .ok (.getfield 27, 3) := dk_180 0 27 (dk_at dksX18_offer_3 5 rfl rfl)
theorem dX18_offer_79 : decode cX18_offer 79 = .ok (.iload 5, 2) := dk_21 5 (dk_at dksX18_offer_3 8 rfl rfl)
theorem dX18_offer_81 : decode cX18_offer 81 = .ok (.iastore, 1) := dk_79 (dk_at dksX18_offer_3 10 rfl rfl)
theorem dX18_offer_82 : decode cX18_offer 82 = .ok (.aload_n 0, 1) := dk_42 (dk_at dksX18_offer_3 11 rfl rfl)
theorem dX18_offer_83 : decode cX18_offer 83 = .ok (.getfield 21, 3) := dk_180 0 21 (dk_at dksX18_offer_3 12 rfl rfl)
theorem dX18_offer_86 : decode cX18_offer 86 = .ok (.aload_n 0, 1) := dk_42 (dk_at dksX18_offer_3 15 rfl rfl)
theorem dX18_offer_87 : decode cX18_offer 87 = .ok (.getfield 27, 3) := dk_180 0 27 (dk_at dksX18_offer_3 16 rfl rfl)
theorem dX18_offer_90 : decode cX18_offer 90 = .ok (.aload_n 0, 1) := dk_42 (dk_at dksX18_offer_3 19 rfl rfl)
theorem dX18_offer_91 : decode cX18_offer 91 = .ok (.getfield 24, 3) := dk_180 0 24 (dk_at dksX18_offer_3 20 rfl rfl)
theorem dX18_offer_94 : decode cX18_offer 94 = .ok (.iload 6, 2) := dk_21 6 (dk_at dksX18_offer_4 0 rfl rfl)
theorem dX18_offer_96 : decode cX18_offer 96 = .ok (.iaload, 1) := dk_46 (dk_at dksX18_offer_4 2 rfl rfl)
theorem dX18_offer_97 : decode cX18_offer 97 = .ok (.iastore, 1) := dk_79 (dk_at dksX18_offer_4 3 rfl rfl)
theorem dX18_offer_98 : decode cX18_offer 98 = .ok (.aload_n 0, 1) := dk_42 (dk_at dksX18_offer_4 4 rfl rfl)
theorem dX18_offer_99 : decode cX18_offer 99 = .ok (.getfield 24, 3) := dk_180 0 24 (dk_at dksX18_offer_4 5 rfl rfl)
theorem dX18_offer_102 : decode cX18_offer 102 = .ok (.iload 6, 2) := dk_21 6 (dk_at dksX18_offer_4 8 rfl rfl)
theorem dX18_offer_104 : decode cX18_offer 104 = .ok (.aload_n 0, 1) := dk_42 (dk_at dksX18_offer_4 10 rfl rfl)
theorem dX18_offer_105 : decode cX18_offer 105 = .ok (.dup, 1) := dk_89 (dk_at dksX18_offer_4 11 rfl rfl)
theorem dX18_offer_106 : decode cX18_offer 106 = .ok (.getfield 27, 3) := dk_180 0 27 (dk_at dksX18_offer_4 12 rfl rfl)
theorem dX18_offer_109 : decode cX18_offer 109 = .ok (.dup_x1, 1) := dk_90 (dk_at dksX18_offer_4 15 rfl rfl)
theorem dX18_offer_110 : decode cX18_offer 110 = .ok (.iconst 1, 1) := dk_4 (dk_at dksX18_offer_4 16 rfl rfl)
theorem dX18_offer_111 : decode cX18_offer 111 = .ok (.iadd, 1) := dk_96 (dk_at dksX18_offer_4 17 rfl rfl)
theorem dX18_offer_112 : decode cX18_offer 112 = .ok (.putfield 27, 3) := dk_181 0 27 (dk_at dksX18_offer_4 18 rfl rfl)
theorem dX18_offer_115 : decode cX18_offer 115 = .ok (.iastore, 1) := dk_79 (dk_at dksX18_offer_4 21 rfl rfl)
theorem dX18_offer_116 : decode cX18_offer 116 = .ok (.return_, 1) := dk_177 (dk_at dksX18_offer_4 22 rfl rfl)
abbrev cX18_beats : ByteArray := prog_39_method_4_code
def yX18_beats : MethodName := ⟨RX18, "beats", "(IIII)Z"⟩
def dkwX18_beats_2 : List UInt8 := [172]
abbrev dktX18_beats_2 : List UInt8 := dkwX18_beats_2 ++ []
def dkwX18_beats_1 : List UInt8 := [180, 0, 15, 27, 46, 29, 160, 0, 17, 42, 180, 0, 9, 27, 46, 28, 162, 0, 7, 4, 167, 0, 4, 3]
abbrev dktX18_beats_1 : List UInt8 := dkwX18_beats_1 ++ dktX18_beats_2
def dkwX18_beats_0 : List UInt8 := [42, 180, 0, 18, 27, 46, 21, 4, 163, 0, 37, 42, 180, 0, 15, 27, 46, 29, 161, 0, 23, 42]
abbrev dktX18_beats_0 : List UInt8 := dkwX18_beats_0 ++ dktX18_beats_1
theorem dksX18_beats_0 : cX18_beats.data.toList.drop 0 = dktX18_beats_0 := by decide +kernel
theorem dksX18_beats_1 : cX18_beats.data.toList.drop 22 = dktX18_beats_1 := dk_seg dksX18_beats_0 22 rfl rfl
theorem dksX18_beats_2 : cX18_beats.data.toList.drop 46 = dktX18_beats_2 := dk_seg dksX18_beats_1 24 rfl rfl
theorem dX18_beats_0 : decode cX18_beats 0 = .ok (.aload_n 0, 1) := dk_42 (dk_at dksX18_beats_0 0 rfl rfl)
theorem dX18_beats_1 : decode cX18_beats 1 = .ok (.getfield 18, 3) := dk_180 0 18 (dk_at dksX18_beats_0 1 rfl rfl)
theorem dX18_beats_4 : decode cX18_beats 4 = .ok (.iload_n 1, 1) := dk_27 (dk_at dksX18_beats_0 4 rfl rfl)
theorem dX18_beats_5 : decode cX18_beats 5 = .ok (.iaload, 1) := dk_46 (dk_at dksX18_beats_0 5 rfl rfl)
theorem dX18_beats_6 : decode cX18_beats 6 = .ok (.iload 4, 2) := dk_21 4 (dk_at dksX18_beats_0 6 rfl rfl)
theorem dX18_beats_8 : decode cX18_beats 8 = .ok (.if_icmp .gt 37, 3) := dk_163 0 37 (dk_at dksX18_beats_0 8 rfl rfl)
theorem dX18_beats_11 : decode cX18_beats 11 = .ok (.aload_n 0, 1) := dk_42 (dk_at dksX18_beats_0 11 rfl rfl)
theorem dX18_beats_12 : decode cX18_beats 12 = .ok (.getfield 15, 3) := dk_180 0 15 (dk_at dksX18_beats_0 12 rfl rfl)
theorem dX18_beats_15 : decode cX18_beats 15 = .ok (.iload_n 1, 1) := dk_27 (dk_at dksX18_beats_0 15 rfl rfl)
theorem dX18_beats_16 : decode cX18_beats 16 = .ok (.iaload, 1) := dk_46 (dk_at dksX18_beats_0 16 rfl rfl)
theorem dX18_beats_17 : decode cX18_beats 17 = .ok (.iload_n 3, 1) := dk_29 (dk_at dksX18_beats_0 17 rfl rfl)
theorem dX18_beats_18 : decode cX18_beats 18 = .ok (.if_icmp .lt 23, 3) := dk_161 0 23 (dk_at dksX18_beats_0 18 rfl rfl)
theorem dX18_beats_21 : decode cX18_beats 21 = .ok (.aload_n 0, 1) := dk_42 (dk_at dksX18_beats_0 21 rfl rfl)
theorem dX18_beats_22 : decode cX18_beats 22 = .ok (.getfield 15, 3) := dk_180 0 15 (dk_at dksX18_beats_1 0 rfl rfl)
theorem dX18_beats_25 : decode cX18_beats 25 = .ok (.iload_n 1, 1) := dk_27 (dk_at dksX18_beats_1 3 rfl rfl)
theorem dX18_beats_26 : decode cX18_beats 26 = .ok (.iaload, 1) := dk_46 (dk_at dksX18_beats_1 4 rfl rfl)
theorem dX18_beats_27 : decode cX18_beats 27 = .ok (.iload_n 3, 1) := dk_29 (dk_at dksX18_beats_1 5 rfl rfl)
theorem dX18_beats_28 : decode cX18_beats 28 = .ok (.if_icmp .ne 17, 3) := dk_160 0 17 (dk_at dksX18_beats_1 6 rfl rfl)
theorem dX18_beats_31 : decode cX18_beats 31 = .ok (.aload_n 0, 1) := dk_42 (dk_at dksX18_beats_1 9 rfl rfl)
theorem dX18_beats_32 : decode cX18_beats 32 = .ok (.getfield 9, 3) := dk_180 0 9 (dk_at dksX18_beats_1 10 rfl rfl)
theorem dX18_beats_35 : decode cX18_beats 35 = .ok (.iload_n 1, 1) := dk_27 (dk_at dksX18_beats_1 13 rfl rfl)
theorem dX18_beats_36 : decode cX18_beats 36 = .ok (.iaload, 1) := dk_46 (dk_at dksX18_beats_1 14 rfl rfl)
theorem dX18_beats_37 : decode cX18_beats 37 = .ok (.iload_n 2, 1) := dk_28 (dk_at dksX18_beats_1 15 rfl rfl)
theorem dX18_beats_38 : decode cX18_beats 38 = .ok (.if_icmp .ge 7, 3) := dk_162 0 7 (dk_at dksX18_beats_1 16 rfl rfl)
theorem dX18_beats_41 : decode cX18_beats 41 = .ok (.iconst 1, 1) := dk_4 (dk_at dksX18_beats_1 19 rfl rfl)
theorem dX18_beats_42 : decode cX18_beats 42 = .ok (.goto 4, 3) := dk_167 0 4 (dk_at dksX18_beats_1 20 rfl rfl)
theorem dX18_beats_45 : decode cX18_beats 45 = .ok (.iconst 0, 1) := dk_3 (dk_at dksX18_beats_1 23 rfl rfl)
theorem dX18_beats_46 : decode cX18_beats 46 = .ok (.ireturn, 1) := dk_172 (dk_at dksX18_beats_2 0 rfl rfl)
abbrev cX18_first : ByteArray := prog_39_method_3_code
def yX18_first : MethodName := ⟨RX18, "first", "(II)I"⟩
def dkwX18_first_0 : List UInt8 := [42, 180, 0, 24, 16, 6, 27, 104, 28, 96, 46, 172]
abbrev dktX18_first_0 : List UInt8 := dkwX18_first_0 ++ []
theorem dksX18_first_0 : cX18_first.data.toList.drop 0 = dktX18_first_0 := by decide +kernel
theorem dX18_first_0 : decode cX18_first 0 = .ok (.aload_n 0, 1) := dk_42 (dk_at dksX18_first_0 0 rfl rfl)
theorem dX18_first_1 : decode cX18_first 1 = .ok (.getfield 24, 3) := dk_180 0 24 (dk_at dksX18_first_0 1 rfl rfl)
theorem dX18_first_4 : decode cX18_first 4 = .ok (.bipush 6, 2) := dk_16 6 (dk_at dksX18_first_0 4 rfl rfl)
theorem dX18_first_6 : decode cX18_first 6 = .ok (.iload_n 1, 1) := dk_27 (dk_at dksX18_first_0 6 rfl rfl)
theorem dX18_first_7 : decode cX18_first 7 = .ok (.imul, 1) := dk_104 (dk_at dksX18_first_0 7 rfl rfl)
theorem dX18_first_8 : decode cX18_first 8 = .ok (.iload_n 2, 1) := dk_28 (dk_at dksX18_first_0 8 rfl rfl)
theorem dX18_first_9 : decode cX18_first 9 = .ok (.iadd, 1) := dk_96 (dk_at dksX18_first_0 9 rfl rfl)
theorem dX18_first_10 : decode cX18_first 10 = .ok (.iaload, 1) := dk_46 (dk_at dksX18_first_0 10 rfl rfl)
theorem dX18_first_11 : decode cX18_first 11 = .ok (.ireturn, 1) := dk_172 (dk_at dksX18_first_0 11 rfl rfl)
theorem q417 : (Jvm.Cond.initialized "WasteHouse$RoundColumns$Rows") ∈ lw_all := lw_g (lw_at lw_m1 25 rfl) rfl
theorem q1144 : (Jvm.Cond.instantiable "WasteHouse$RoundColumns$Rows" (6 : Nat)) ∈ lw_all := lw_g (lw_at lw_m4 32 rfl) rfl
theorem q1146 : (Jvm.Cond.instanceMethod ({ cls := "WasteHouse$RoundColumns$Rows", name := "<init>", desc := "()V" } : Jvm.MethodName)) ∈ lw_all := lw_g (lw_at lw_m4 34 rfl) rfl
theorem q1147 : (Jvm.Cond.code ({ cls := "WasteHouse$RoundColumns$Rows", name := "<init>", desc := "()V" } : Jvm.MethodName) prog_39_method_1_code (1 : Nat) (Option.none : Option Jvm.ClassFile.FieldType)) ∈ lw_all := lw_g (lw_at lw_m4 35 rfl) rfl
theorem q1148 : (Jvm.Cond.methodLink "WasteHouse$RoundColumns$Rows" (3 : Nat) ({ cls := "java/lang/Object", name := "<init>", desc := "()V" } : Jvm.MethodName)) ∈ lw_all := lw_g (lw_at lw_m4 36 rfl) rfl
theorem q1149 : (Jvm.Cond.fieldLink "WasteHouse$RoundColumns$Rows" (9 : Nat) "WasteHouse$RoundColumns$Rows" "codes" "[I") ∈ lw_all := lw_g (lw_at lw_m4 37 rfl) rfl
theorem q1151 : (Jvm.Cond.fieldLink "WasteHouse$RoundColumns$Rows" (15 : Nat) "WasteHouse$RoundColumns$Rows" "costs" "[I") ∈ lw_all := lw_g (lw_at lw_m4 39 rfl) rfl
theorem q1153 : (Jvm.Cond.fieldLink "WasteHouse$RoundColumns$Rows" (18 : Nat) "WasteHouse$RoundColumns$Rows" "times" "[I") ∈ lw_all := lw_g (lw_at lw_m4 41 rfl) rfl
theorem q1155 : (Jvm.Cond.fieldLink "WasteHouse$RoundColumns$Rows" (21 : Nat) "WasteHouse$RoundColumns$Rows" "nexts" "[I") ∈ lw_all := lw_g (lw_at lw_m4 43 rfl) rfl
theorem q1157 : (Jvm.Cond.fieldLink "WasteHouse$RoundColumns$Rows" (27 : Nat) "WasteHouse$RoundColumns$Rows" "count" "I") ∈ lw_all := lw_g (lw_at lw_m4 45 rfl) rfl
theorem q1158 : (Jvm.Cond.fieldLink "WasteHouse$RoundColumns$Rows" (24 : Nat) "WasteHouse$RoundColumns$Rows" "firsts" "[I") ∈ lw_all := lw_g (lw_at lw_m4 46 rfl) rfl
theorem q1159 : (Jvm.Cond.laysFinal "WasteHouse$RoundColumns$Rows" "WasteHouse$RoundColumns$Rows" "codes" "[I") ∈ lw_all := lw_g (lw_at lw_m4 47 rfl) rfl
theorem q1160 : (Jvm.Cond.soleField "WasteHouse$RoundColumns$Rows" "codes") ∈ lw_all := lw_g (lw_at lw_m4 48 rfl) rfl
theorem q1161 : (Jvm.Cond.laysFinal "WasteHouse$RoundColumns$Rows" "WasteHouse$RoundColumns$Rows" "costs" "[I") ∈ lw_all := lw_g (lw_at lw_m4 49 rfl) rfl
theorem q1162 : (Jvm.Cond.soleField "WasteHouse$RoundColumns$Rows" "costs") ∈ lw_all := lw_g (lw_at lw_m4 50 rfl) rfl
theorem q1163 : (Jvm.Cond.laysFinal "WasteHouse$RoundColumns$Rows" "WasteHouse$RoundColumns$Rows" "times" "[I") ∈ lw_all := lw_g (lw_at lw_m4 51 rfl) rfl
theorem q1164 : (Jvm.Cond.soleField "WasteHouse$RoundColumns$Rows" "times") ∈ lw_all := lw_g (lw_at lw_m4 52 rfl) rfl
theorem q1165 : (Jvm.Cond.laysFinal "WasteHouse$RoundColumns$Rows" "WasteHouse$RoundColumns$Rows" "nexts" "[I") ∈ lw_all := lw_g (lw_at lw_m4 53 rfl) rfl
theorem q1166 : (Jvm.Cond.soleField "WasteHouse$RoundColumns$Rows" "nexts") ∈ lw_all := lw_g (lw_at lw_m4 54 rfl) rfl
theorem q1167 : (Jvm.Cond.lays "WasteHouse$RoundColumns$Rows" "WasteHouse$RoundColumns$Rows" "count" "I") ∈ lw_all := lw_g (lw_at lw_m4 55 rfl) rfl
theorem q1168 : (Jvm.Cond.soleField "WasteHouse$RoundColumns$Rows" "count") ∈ lw_all := lw_g (lw_at lw_m4 56 rfl) rfl
theorem q1169 : (Jvm.Cond.laysFinal "WasteHouse$RoundColumns$Rows" "WasteHouse$RoundColumns$Rows" "firsts" "[I") ∈ lw_all := lw_g (lw_at lw_m4 57 rfl) rfl
theorem q1170 : (Jvm.Cond.soleField "WasteHouse$RoundColumns$Rows" "firsts") ∈ lw_all := lw_g (lw_at lw_m4 58 rfl) rfl
theorem q1171 : (Jvm.Cond.superclass "WasteHouse$RoundColumns$Rows" "java/lang/Object") ∈ lw_all := lw_g (lw_at lw_m4 59 rfl) rfl
theorem q2008 : (Jvm.Cond.selects "WasteHouse$RoundColumns$Rows" ({ cls := "java/lang/Object", name := "getClass", desc := "()Ljava/lang/Class;" } : Jvm.MethodName) ({ cls := "java/lang/Object", name := "getClass", desc := "()Ljava/lang/Class;" } : Jvm.MethodName)) ∈ lw_all := lw_g (lw_at lw_m7 176 rfl) rfl
theorem q3118 : (Jvm.Cond.selects "WasteHouse$RoundColumns$Rows" ({ cls := "java/lang/Object", name := "equals", desc := "(Ljava/lang/Object;)Z" } : Jvm.MethodName) ({ cls := "java/lang/Object", name := "equals", desc := "(Ljava/lang/Object;)Z" } : Jvm.MethodName)) ∈ lw_all := lw_g (lw_at lw_m12 86 rfl) rfl
theorem q3636 : (Jvm.Cond.selects "WasteHouse$RoundColumns$Rows" ({ cls := "java/lang/Object", name := "hashCode", desc := "()I" } : Jvm.MethodName) ({ cls := "java/lang/Object", name := "hashCode", desc := "()I" } : Jvm.MethodName)) ∈ lw_all := lw_g (lw_at lw_m14 124 rfl) rfl
theorem q6081 : (Jvm.Cond.instanceMethod ({ cls := "WasteHouse$RoundColumns$Rows", name := "clear", desc := "()V" } : Jvm.MethodName)) ∈ lw_all := lw_g (lw_at lw_m24 169 rfl) rfl
theorem q6082 : (Jvm.Cond.selects "WasteHouse$RoundColumns$Rows" ({ cls := "WasteHouse$RoundColumns$Rows", name := "clear", desc := "()V" } : Jvm.MethodName) ({ cls := "WasteHouse$RoundColumns$Rows", name := "clear", desc := "()V" } : Jvm.MethodName)) ∈ lw_all := lw_g (lw_at lw_m24 170 rfl) rfl
theorem q6083 : (Jvm.Cond.code ({ cls := "WasteHouse$RoundColumns$Rows", name := "clear", desc := "()V" } : Jvm.MethodName) prog_39_method_2_code (2 : Nat) (Option.none : Option Jvm.ClassFile.FieldType)) ∈ lw_all := lw_g (lw_at lw_m24 171 rfl) rfl
theorem q6097 : (Jvm.Cond.instanceMethod ({ cls := "WasteHouse$RoundColumns$Rows", name := "offer", desc := "(IIIII)V" } : Jvm.MethodName)) ∈ lw_all := lw_g (lw_at lw_m24 185 rfl) rfl
theorem q6098 : (Jvm.Cond.selects "WasteHouse$RoundColumns$Rows" ({ cls := "WasteHouse$RoundColumns$Rows", name := "offer", desc := "(IIIII)V" } : Jvm.MethodName) ({ cls := "WasteHouse$RoundColumns$Rows", name := "offer", desc := "(IIIII)V" } : Jvm.MethodName)) ∈ lw_all := lw_g (lw_at lw_m24 186 rfl) rfl
theorem q6099 : (Jvm.Cond.code ({ cls := "WasteHouse$RoundColumns$Rows", name := "offer", desc := "(IIIII)V" } : Jvm.MethodName) prog_39_method_5_code (8 : Nat) (Option.none : Option Jvm.ClassFile.FieldType)) ∈ lw_all := lw_g (lw_at lw_m24 187 rfl) rfl
theorem q6100 : (Jvm.Cond.methodLink "WasteHouse$RoundColumns$Rows" (31 : Nat) ({ cls := "WasteHouse$RoundColumns$Rows", name := "beats", desc := "(IIII)Z" } : Jvm.MethodName)) ∈ lw_all := lw_g (lw_at lw_m24 188 rfl) rfl
theorem q6101 : (Jvm.Cond.privateMethod ({ cls := "WasteHouse$RoundColumns$Rows", name := "beats", desc := "(IIII)Z" } : Jvm.MethodName)) ∈ lw_tbl := lw_at lw_m24 189 rfl
theorem q6102 : (Jvm.Cond.instanceMethod ({ cls := "WasteHouse$RoundColumns$Rows", name := "beats", desc := "(IIII)Z" } : Jvm.MethodName)) ∈ lw_all := lw_g (lw_at lw_m24 190 rfl) rfl
theorem q6103 : (Jvm.Cond.code ({ cls := "WasteHouse$RoundColumns$Rows", name := "beats", desc := "(IIII)Z" } : Jvm.MethodName) prog_39_method_4_code (5 : Nat) (Option.some Jvm.ClassFile.FieldType.boolean)) ∈ lw_all := lw_g (lw_at lw_m24 191 rfl) rfl
theorem q6105 : (Jvm.Cond.instanceMethod ({ cls := "WasteHouse$RoundColumns$Rows", name := "first", desc := "(II)I" } : Jvm.MethodName)) ∈ lw_all := lw_g (lw_at lw_m24 193 rfl) rfl
theorem q6106 : (Jvm.Cond.selects "WasteHouse$RoundColumns$Rows" ({ cls := "WasteHouse$RoundColumns$Rows", name := "first", desc := "(II)I" } : Jvm.MethodName) ({ cls := "WasteHouse$RoundColumns$Rows", name := "first", desc := "(II)I" } : Jvm.MethodName)) ∈ lw_all := lw_g (lw_at lw_m24 194 rfl) rfl
theorem q6107 : (Jvm.Cond.code ({ cls := "WasteHouse$RoundColumns$Rows", name := "first", desc := "(II)I" } : Jvm.MethodName) prog_39_method_3_code (3 : Nat) (Option.some Jvm.ClassFile.FieldType.int)) ∈ lw_all := lw_g (lw_at lw_m24 195 rfl) rfl
theorem q9646 : (Jvm.Cond.castable "WasteHouse$RoundColumns$Rows" "java/lang/Object") ∈ lw_tbl := lw_at lw_m39 134 rfl
theorem in_X18 : ∀ w ∈ wsX180, w ∈ lw_all := lw_in wsX180 [1159, 1161, 1163, 1165, 1167, 1169] (by decide +kernel) (by decide +kernel)
