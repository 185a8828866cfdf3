/-! WasteHouse$ShareSolve$Reckoner -/
set_option maxRecDepth 100000
def RX9 : String := "WasteHouse$ShareSolve$Reckoner"
def TX9 : u_T := fun k => match k with
  | 0 => ("WasteHouse$ShareSolve$Reckoner", "product", "LWasteHouse$ShareSolve$Whole;", true)
  | 1 => ("WasteHouse$ShareSolve$Reckoner", "rest", "LWasteHouse$ShareSolve$Whole;", true)
  | 2 => ("WasteHouse$ShareSolve$Reckoner", "other", "LWasteHouse$ShareSolve$Whole;", true)
  | _ => ("WasteHouse$ShareSolve$Reckoner", "high", "[I", true)
def tyX9 : Nat → FieldType := fun k => match k with
  | 0 => .object "WasteHouse$ShareSolve$Whole"
  | 1 => .object "WasteHouse$ShareSolve$Whole"
  | 2 => .object "WasteHouse$ShareSolve$Whole"
  | _ => .array .int
abbrev wsX90 : List Cond := u_ws RX9 TX9 4
theorem nmX9 : ∀ a, a < 4 → ∀ b, b < 4 → a ≠ b → (TX9 a).2.1 ≠ (TX9 b).2.1 := by decide +kernel
theorem tyX9_ok : ∀ k, k < 4 → parseFieldDescriptor (TX9 k).2.2.1 = some (tyX9 k) := by decide +kernel
abbrev cX9_init : ByteArray := prog_44_method_1_code
def yX9_init : MethodName := ⟨RX9, "<init>", "()V"⟩
def dkwX9_init_1 : List UInt8 := [181, 0, 16, 42, 187, 0, 7, 89, 183, 0, 9, 181, 0, 19, 42, 16, 50, 188, 10, 181, 0, 22, 177]
abbrev dktX9_init_1 : List UInt8 := dkwX9_init_1 ++ []
def dkwX9_init_0 : List UInt8 := [42, 183, 0, 1, 42, 187, 0, 7, 89, 183, 0, 9, 181, 0, 10, 42, 187, 0, 7, 89, 183, 0, 9]
abbrev dktX9_init_0 : List UInt8 := dkwX9_init_0 ++ dktX9_init_1
theorem dksX9_init_0 : cX9_init.data.toList.drop 0 = dktX9_init_0 := by decide +kernel
theorem dksX9_init_1 : cX9_init.data.toList.drop 23 = dktX9_init_1 := dk_seg dksX9_init_0 23 rfl rfl
theorem dX9_init_0 : decode cX9_init 0 = .ok (.aload_n 0, 1) := dk_42 (dk_at dksX9_init_0 0 rfl rfl)
theorem dX9_init_1 : decode cX9_init 1 = .ok (.invokespecial 1, 3) := dk_183 0 1 (dk_at dksX9_init_0 1 rfl rfl)
theorem dX9_init_4 : decode cX9_init 4 = .ok (.aload_n 0, 1) := dk_42 (dk_at dksX9_init_0 4 rfl rfl)
theorem dX9_init_5 : decode cX9_init 5 = .ok (.new 7, 3) := dk_187 0 7 (dk_at dksX9_init_0 5 rfl rfl)
theorem dX9_init_8 : decode cX9_init 8 = .ok (.dup, 1) := dk_89 (dk_at dksX9_init_0 8 rfl rfl)
theorem dX9_init_9 : decode cX9_init 9 = .ok (.invokespecial 9, 3) := dk_183 0 9 (dk_at dksX9_init_0 9 rfl rfl)
theorem dX9_init_12 : decode cX9_init 12 = .ok (.putfield 10, 3) := dk_181 0 10 (dk_at dksX9_init_0 12 rfl rfl)
theorem dX9_init_15 : decode cX9_init 15 = .ok (.aload_n 0, 1) := dk_42 (dk_at dksX9_init_0 15 rfl rfl)
theorem dX9_init_16 : decode cX9_init 16 = .ok (.new 7, 3) := dk_187 0 7 (dk_at dksX9_init_0 16 rfl rfl)
theorem dX9_init_19 : decode cX9_init 19 = .ok (.dup, 1) := dk_89 (dk_at dksX9_init_0 19 rfl rfl)
theorem dX9_init_20 : decode cX9_init 20 = .ok (.invokespecial 9, 3) := dk_183 0 9 (dk_at dksX9_init_0 20 rfl rfl)
theorem dX9_init_23 : decode cX9_init 23 = .ok (.putfield 16, 3) := dk_181 0 16 (dk_at dksX9_init_1 0 rfl rfl)
theorem dX9_init_26 : decode cX9_init 26 = .ok (.aload_n 0, 1) := dk_42 (dk_at dksX9_init_1 3 rfl rfl)
theorem dX9_init_27 : decode cX9_init 27 = .ok (.new 7, 3) := dk_187 0 7 (dk_at dksX9_init_1 4 rfl rfl)
theorem dX9_init_30 : decode cX9_init 30 = .ok (.dup, 1) := dk_89 (dk_at dksX9_init_1 7 rfl rfl)
theorem dX9_init_31 : decode cX9_init 31 = .ok (.invokespecial 9, 3) := dk_183 0 9 (dk_at dksX9_init_1 8 rfl rfl)
theorem dX9_init_34 : decode cX9_init 34 = .ok (.putfield 19, 3) := dk_181 0 19 (dk_at dksX9_init_1 11 rfl rfl)
theorem dX9_init_37 : decode cX9_init 37 = .ok (.aload_n 0, 1) := dk_42 (dk_at dksX9_init_1 14 rfl rfl)
theorem dX9_init_38 : decode cX9_init 38 = .ok (.bipush 50, 2) := dk_16 50 (dk_at dksX9_init_1 15 rfl rfl)
theorem dX9_init_40 : decode cX9_init 40 = .ok (.newarray .int, 2) := dk_188_10 (dk_at dksX9_init_1 17 rfl rfl)
theorem dX9_init_42 : decode cX9_init 42 = .ok (.putfield 22, 3) := dk_181 0 22 (dk_at dksX9_init_1 19 rfl rfl)
theorem dX9_init_45 : decode cX9_init 45 = .ok (.return_, 1) := dk_177 (dk_at dksX9_init_1 22 rfl rfl)
abbrev cX9_multiply : ByteArray := prog_44_method_2_code
def yX9_multiply : MethodName := ⟨RX9, "multiply", "(LWasteHouse$ShareSolve$Whole;LWasteHouse$ShareSolve$Whole;LWasteHouse$ShareSolve$Whole;)V"⟩
def dkwX9_multiply_7 : List UInt8 := [29, 182, 0, 39, 177]
abbrev dktX9_multiply_7 : List UInt8 := dkwX9_multiply_7 ++ []
def dkwX9_multiply_6 : List UInt8 := [167, 255, 150, 44, 42, 180, 0, 35, 43, 180, 0, 35, 159, 0, 7, 4, 167, 0, 4, 3, 181, 0, 35, 44]
abbrev dktX9_multiply_6 : List UInt8 := dkwX9_multiply_6 ++ dktX9_multiply_7
def dkwX9_multiply_5 : List UInt8 := [132, 7, 1, 167, 255, 186, 44, 180, 0, 30, 21, 4, 43, 180, 0, 26, 96, 22, 5, 136, 79, 132, 4, 1]
abbrev dktX9_multiply_5 : List UInt8 := dkwX9_multiply_5 ++ dktX9_multiply_6
def dkwX9_multiply_4 : List UInt8 := [44, 180, 0, 30, 21, 4, 21, 7, 96, 22, 5, 20, 0, 33, 127, 136, 79, 22, 5, 16, 16, 123, 55, 5]
abbrev dktX9_multiply_4 : List UInt8 := dkwX9_multiply_4 ++ dktX9_multiply_5
def dkwX9_multiply_3 : List UInt8 := [43, 180, 0, 30, 21, 7, 46, 133, 105, 44, 180, 0, 30, 21, 4, 21, 7, 96, 46, 133, 97, 97, 55, 5]
abbrev dktX9_multiply_3 : List UInt8 := dkwX9_multiply_3 ++ dktX9_multiply_4
def dkwX9_multiply_2 : List UInt8 := [55, 5, 3, 54, 7, 21, 7, 43, 180, 0, 26, 162, 0, 67, 22, 5, 42, 180, 0, 30, 21, 4, 46, 133]
abbrev dktX9_multiply_2 : List UInt8 := dkwX9_multiply_2 ++ dktX9_multiply_3
def dkwX9_multiply_1 : List UInt8 := [21, 4, 3, 79, 132, 4, 1, 167, 255, 239, 3, 54, 4, 21, 4, 42, 180, 0, 26, 162, 0, 103, 9]
abbrev dktX9_multiply_1 : List UInt8 := dkwX9_multiply_1 ++ dktX9_multiply_2
def dkwX9_multiply_0 : List UInt8 := [42, 180, 0, 26, 43, 180, 0, 26, 96, 62, 3, 54, 4, 21, 4, 29, 162, 0, 17, 44, 180, 0, 30]
abbrev dktX9_multiply_0 : List UInt8 := dkwX9_multiply_0 ++ dktX9_multiply_1
theorem dksX9_multiply_0 : cX9_multiply.data.toList.drop 0 = dktX9_multiply_0 := by decide +kernel
theorem dksX9_multiply_1 : cX9_multiply.data.toList.drop 23 = dktX9_multiply_1 := dk_seg dksX9_multiply_0 23 rfl rfl
theorem dksX9_multiply_2 : cX9_multiply.data.toList.drop 46 = dktX9_multiply_2 := dk_seg dksX9_multiply_1 23 rfl rfl
theorem dksX9_multiply_3 : cX9_multiply.data.toList.drop 70 = dktX9_multiply_3 := dk_seg dksX9_multiply_2 24 rfl rfl
theorem dksX9_multiply_4 : cX9_multiply.data.toList.drop 94 = dktX9_multiply_4 := dk_seg dksX9_multiply_3 24 rfl rfl
theorem dksX9_multiply_5 : cX9_multiply.data.toList.drop 118 = dktX9_multiply_5 := dk_seg dksX9_multiply_4 24 rfl rfl
theorem dksX9_multiply_6 : cX9_multiply.data.toList.drop 142 = dktX9_multiply_6 := dk_seg dksX9_multiply_5 24 rfl rfl
theorem dksX9_multiply_7 : cX9_multiply.data.toList.drop 166 = dktX9_multiply_7 := dk_seg dksX9_multiply_6 24 rfl rfl
theorem dX9_multiply_0 : decode cX9_multiply 0 = .ok (.aload_n 0, 1) := dk_42 (dk_at dksX9_multiply_0 0 rfl rfl)
theorem dX9_multiply_1 : decode cX9_multiply 1 = .ok (.getfield 26, 3) := dk_180 0 26 (dk_at dksX9_multiply_0 1 rfl rfl)
theorem dX9_multiply_4 : decode cX9_multiply 4 = .ok (.aload_n 1, 1) := dk_43 (dk_at dksX9_multiply_0 4 rfl rfl)
theorem dX9_multiply_5 : decode cX9_multiply 5 = .ok (.getfield 26, 3) := dk_180 0 26 (dk_at dksX9_multiply_0 5 rfl rfl)
theorem dX9_multiply_8 : decode cX9_multiply 8 = .ok (.iadd, 1) := dk_96 (dk_at dksX9_multiply_0 8 rfl rfl)
theorem dX9_multiply_9 : decode cX9_multiply 9 = .ok (.istore_n 3, 1) := dk_62 (dk_at dksX9_multiply_0 9 rfl rfl)
theorem dX9_multiply_10 : decode cX9_multiply 10 = .ok (.iconst 0, 1) := dk_3 (dk_at dksX9_multiply_0 10 rfl rfl)
theorem dX9_multiply_11 : decode cX9_multiply 11 = .ok (.istore 4, 2) := dk_54 4 (dk_at dksX9_multiply_0 11 rfl rfl)
theorem dX9_multiply_13 : decode cX9_multiply 13 = .ok (.iload 4, 2) := dk_21 4 (dk_at dksX9_multiply_0 13 rfl rfl)
theorem dX9_multiply_15 : decode cX9_multiply 15 = .ok (.iload_n 3, 1) := dk_29 (dk_at dksX9_multiply_0 15 rfl rfl)
theorem dX9_multiply_16 : decode cX9_multiply 16 = .ok (.if_icmp .ge 17, 3) := dk_162 0 17 (dk_at dksX9_multiply_0 16 rfl rfl)
theorem dX9_multiply_19 : decode cX9_multiply 19 = .ok (.aload_n 2, 1) := dk_44 (dk_at dksX9_multiply_0 19 rfl rfl)
theorem dX9_multiply_20 : decode cX9_multiply 20 = .ok (.getfield 30, 3) := dk_180 0 30 (dk_at dksX9_multiply_0 20 rfl rfl)
theorem dX9_multiply_23 : decode cX9_multiply 23 = .ok (.iload 4, 2) := dk_21 4 (dk_at dksX9_multiply_1 0 rfl rfl)
theorem dX9_multiply_25 : decode cX9_multiply 25 = .ok (.iconst 0, 1) := dk_3 (dk_at dksX9_multiply_1 2 rfl rfl)
theorem dX9_multiply_26 : decode cX9_multiply 26 = .ok (.iastore, 1) := dk_79 (dk_at dksX9_multiply_1 3 rfl rfl)
theorem dX9_multiply_27 : decode cX9_multiply 27 = .ok (.iinc 4 1, 3) := dk_132 4 1 (dk_at dksX9_multiply_1 4 rfl rfl)
theorem dX9_multiply_30 : decode cX9_multiply 30 = .ok (.goto (-17), 3) := dk_167 255 239 (dk_at dksX9_multiply_1 7 rfl rfl)
theorem dX9_multiply_33 : decode cX9_multiply 33 = .ok (.iconst 0, 1) := dk_3 (dk_at dksX9_multiply_1 10 rfl rfl)
theorem dX9_multiply_34 : decode cX9_multiply 34 = .ok (.istore 4, 2) := dk_54 4 (dk_at dksX9_multiply_1 11 rfl rfl)
theorem dX9_multiply_36 : decode cX9_multiply 36 = .ok (.iload 4, 2) := dk_21 4 (dk_at dksX9_multiply_1 13 rfl rfl)
theorem dX9_multiply_38 : decode cX9_multiply 38 = .ok (.aload_n 0, 1) := dk_42 (dk_at dksX9_multiply_1 15 rfl rfl)
theorem dX9_multiply_39 : decode cX9_multiply 39 = .ok (.getfield 26, 3) := dk_180 0 26 (dk_at dksX9_multiply_1 16 rfl rfl)
theorem dX9_multiply_42 : decode cX9_multiply 42 = .ok (.if_icmp .ge 103, 3) := dk_162 0 103 (dk_at dksX9_multiply_1 19 rfl rfl)
theorem dX9_multiply_45 : decode cX9_multiply 45 = .ok (.lconst 0, 1) := dk_9 (dk_at dksX9_multiply_1 22 rfl rfl)
theorem dX9_multiply_46 : decode cX9_multiply 46 = .ok (.lstore 5, 2) := dk_55 5 (dk_at dksX9_multiply_2 0 rfl rfl)
theorem dX9_multiply_48 : decode cX9_multiply 48 = .ok (.iconst 0, 1) := dk_3 (dk_at dksX9_multiply_2 2 rfl rfl)
theorem dX9_multiply_49 : decode cX9_multiply 49 = .ok (.istore 7, 2) := dk_54 7 (dk_at dksX9_multiply_2 3 rfl rfl)
theorem dX9_multiply_51 : decode cX9_multiply 51 = .ok (.iload 7, 2) := dk_21 7 (dk_at dksX9_multiply_2 5 rfl rfl)
theorem dX9_multiply_53 : decode cX9_multiply 53 = .ok (.aload_n 1, 1) := dk_43 (dk_at dksX9_multiply_2 7 rfl rfl)
theorem dX9_multiply_54 : decode cX9_multiply 54 = .ok (.getfield 26, 3) := dk_180 0 26 (dk_at dksX9_multiply_2 8 rfl rfl)
theorem dX9_multiply_57 : decode cX9_multiply 57 = .ok (.if_icmp .ge 67, 3) := dk_162 0 67 (dk_at dksX9_multiply_2 11 rfl rfl)
theorem dX9_multiply_60 : decode cX9_multiply 60 = .ok (.lload 5, 2) := dk_22 5 (dk_at dksX9_multiply_2 14 rfl rfl)
theorem dX9_multiply_62 : decode cX9_multiply 62 = .ok (.aload_n 0, 1) := dk_42 (dk_at dksX9_multiply_2 16 rfl rfl)
theorem dX9_multiply_63 : decode cX9_multiply 63 = .ok (.getfield 30, 3) := dk_180 0 30 (dk_at dksX9_multiply_2 17 rfl rfl)
theorem dX9_multiply_66 : decode cX9_multiply 66 = .ok (.iload 4, 2) := dk_21 4 (dk_at dksX9_multiply_2 20 rfl rfl)
theorem dX9_multiply_68 : decode cX9_multiply 68 = .ok (.iaload, 1) := dk_46 (dk_at dksX9_multiply_2 22 rfl rfl)
theorem dX9_multiply_69 : decode cX9_multiply 69 = .ok (.i2l, 1) := dk_133 (dk_at dksX9_multiply_2 23 rfl rfl)
theorem dX9_multiply_70 : decode cX9_multiply 70 = .ok (.aload_n 1, 1) := dk_43 (dk_at dksX9_multiply_3 0 rfl rfl)
theorem dX9_multiply_71 : decode cX9_multiply 71 = .ok (.getfield 30, 3) := dk_180 0 30 (dk_at dksX9_multiply_3 1 rfl rfl)
theorem dX9_multiply_74 : decode cX9_multiply 74 = .ok (.iload 7, 2) := dk_21 7 (dk_at dksX9_multiply_3 4 rfl rfl)
theorem dX9_multiply_76 : decode cX9_multiply 76 = .ok (.iaload, 1) := dk_46 (dk_at dksX9_multiply_3 6 rfl rfl)
theorem dX9_multiply_77 : decode cX9_multiply 77 = .ok (.i2l, 1) := dk_133 (dk_at dksX9_multiply_3 7 rfl rfl)
theorem dX9_multiply_78 : decode cX9_multiply 78 = .ok (.lmul, 1) := dk_105 (dk_at dksX9_multiply_3 8 rfl rfl)
theorem dX9_multiply_79 : decode cX9_multiply 79 = .ok (.aload_n 2, 1) := dk_44 (dk_at dksX9_multiply_3 9 rfl rfl)
theorem dX9_multiply_80 : decode cX9_multiply 80 = .ok (.getfield 30, 3) := dk_180 0 30 (dk_at dksX9_multiply_3 10 rfl rfl)
theorem dX9_multiply_83 : decode cX9_multiply 83 = .ok (.iload 4, 2) := dk_21 4 (dk_at dksX9_multiply_3 13 rfl rfl)
theorem dX9_multiply_85 : decode cX9_multiply 85 = .ok (.iload 7, 2) := dk_21 7 (dk_at dksX9_multiply_3 15 rfl rfl)
theorem dX9_multiply_87 : decode cX9_multiply 87 = .ok (.iadd, 1) := dk_96 (dk_at dksX9_multiply_3 17 rfl rfl)
theorem dX9_multiply_88 : decode cX9_multiply 88 = .ok (.iaload, 1) := dk_46 (dk_at dksX9_multiply_3 18 rfl rfl)
theorem dX9_multiply_89 : decode cX9_multiply 89 = .ok (.i2l, 1) := dk_133 (dk_at dksX9_multiply_3 19 rfl rfl)
theorem dX9_multiply_90 : decode cX9_multiply 90 = .ok (.ladd, 1) := dk_97 (dk_at dksX9_multiply_3 20 rfl rfl)
theorem dX9_multiply_91 : decode cX9_multiply 91 = .ok (.ladd, 1) := dk_97 (dk_at dksX9_multiply_3 21 rfl rfl)
theorem dX9_multiply_92 : decode cX9_multiply 92 = .ok (.lstore 5, 2) := dk_55 5 (dk_at dksX9_multiply_3 22 rfl rfl)
theorem dX9_multiply_94 : decode cX9_multiply 94 = .ok (.aload_n 2, 1) := dk_44 (dk_at dksX9_multiply_4 0 rfl rfl)
theorem dX9_multiply_95 : decode cX9_multiply 95 = .ok (.getfield 30, 3) := dk_180 0 30 (dk_at dksX9_multiply_4 1 rfl rfl)
theorem dX9_multiply_98 : decode cX9_multiply 98 = .ok (.iload 4, 2) := dk_21 4 (dk_at dksX9_multiply_4 4 rfl rfl)
theorem dX9_multiply_100 : decode cX9_multiply 100 = .ok (.iload 7, 2) := dk_21 7 (dk_at dksX9_multiply_4 6 rfl rfl)
theorem dX9_multiply_102 : decode cX9_multiply 102 = .ok (.iadd, 1) := dk_96 (dk_at dksX9_multiply_4 8 rfl rfl)
theorem dX9_multiply_103 : decode cX9_multiply 103 = .ok (.lload 5, 2) := dk_22 5 (dk_at dksX9_multiply_4 9 rfl rfl)
theorem dX9_multiply_105 : decode cX9_multiply 105 = .ok (.ldc2_w 33, 3) := dk_20 0 33 (dk_at dksX9_multiply_4 11 rfl rfl)
theorem dX9_multiply_108 : decode cX9_multiply 108 = .ok (.land, 1) := dk_127 (dk_at dksX9_multiply_4 14 rfl rfl)
theorem dX9_multiply_109 : decode cX9_multiply 109 = .ok (.l2i, 1) := dk_136 (dk_at dksX9_multiply_4 15 rfl rfl)
theorem dX9_multiply_110 : decode cX9_multiply 110 = .ok (.iastore, 1) := dk_79 (dk_at dksX9_multiply_4 16 rfl rfl)
theorem dX9_multiply_111 : decode cX9_multiply 111 = .ok (.lload 5, 2) := dk_22 5 (dk_at dksX9_multiply_4 17 rfl rfl)
theorem dX9_multiply_113 : decode cX9_multiply 113 = .ok (.bipush 16, 2) := dk_16 16 (dk_at dksX9_multiply_4 19 rfl rfl)
theorem dX9_multiply_115 : decode cX9_multiply 115 = .ok (.lshr, 1) := dk_123 (dk_at dksX9_multiply_4 21 rfl rfl)
theorem dX9_multiply_116 : decode cX9_multiply 116 = .ok (.lstore 5, 2) := dk_55 5 (dk_at dksX9_multiply_4 22 rfl rfl)
theorem dX9_multiply_118 : decode cX9_multiply 118 = .ok (.iinc 7 1, 3) := dk_132 7 1 (dk_at dksX9_multiply_5 0 rfl rfl)
theorem dX9_multiply_121 : decode cX9_multiply 121 = .ok (.goto (-70), 3) := dk_167 255 186 (dk_at dksX9_multiply_5 3 rfl rfl)
theorem dX9_multiply_124 : decode cX9_multiply 124 = .ok (.aload_n 2, 1) := dk_44 (dk_at dksX9_multiply_5 6 rfl rfl)
theorem dX9_multiply_125 : decode cX9_multiply 125 = .ok (.getfield 30, 3) := dk_180 0 30 (dk_at dksX9_multiply_5 7 rfl rfl)
theorem dX9_multiply_128 : decode cX9_multiply 128 = .ok (.iload 4, 2) := dk_21 4 (dk_at dksX9_multiply_5 10 rfl rfl)
theorem dX9_multiply_130 : decode cX9_multiply 130 = .ok (.aload_n 1, 1) := dk_43 (dk_at dksX9_multiply_5 12 rfl rfl)
theorem dX9_multiply_131 : decode cX9_multiply 131 = .ok (.getfield 26, 3) := dk_180 0 26 (dk_at dksX9_multiply_5 13 rfl rfl)
theorem dX9_multiply_134 : decode cX9_multiply 134 = .ok (.iadd, 1) := dk_96 (dk_at dksX9_multiply_5 16 rfl rfl)
theorem dX9_multiply_135 : decode cX9_multiply 135 = .ok (.lload 5, 2) := dk_22 5 (dk_at dksX9_multiply_5 17 rfl rfl)
theorem dX9_multiply_137 : decode cX9_multiply 137 = .ok (.l2i, 1) := dk_136 (dk_at dksX9_multiply_5 19 rfl rfl)
theorem dX9_multiply_138 : decode cX9_multiply 138 = .ok (.iastore, 1) := dk_79 (dk_at dksX9_multiply_5 20 rfl rfl)
theorem dX9_multiply_139 : decode cX9_multiply 139 = .ok (.iinc 4 1, 3) := dk_132 4 1 (dk_at dksX9_multiply_5 21 rfl rfl)
theorem dX9_multiply_142 : decode cX9_multiply 142 = .ok (.goto (-106), 3) := dk_167 255 150 (dk_at dksX9_multiply_6 0 rfl rfl)
theorem dX9_multiply_145 : decode cX9_multiply 145 = .ok (.aload_n 2, 1) := dk_44 (dk_at dksX9_multiply_6 3 rfl rfl)
theorem dX9_multiply_146 : decode cX9_multiply 146 = .ok (.aload_n 0, 1) := dk_42 (dk_at dksX9_multiply_6 4 rfl rfl)
theorem dX9_multiply_147 : decode cX9_multiply 147 = .ok (.getfield 35, 3) := dk_180 0 35 (dk_at dksX9_multiply_6 5 rfl rfl)
theorem dX9_multiply_150 : decode cX9_multiply 150 = .ok (.aload_n 1, 1) := dk_43 (dk_at dksX9_multiply_6 8 rfl rfl)
theorem dX9_multiply_151 : decode cX9_multiply 151 = .ok (.getfield 35, 3) := dk_180 0 35 (dk_at dksX9_multiply_6 9 rfl rfl)
theorem dX9_multiply_154 : decode cX9_multiply 154 = .ok (.if_icmp .eq 7, 3) := dk_159 0 7 (dk_at dksX9_multiply_6 12 rfl rfl)
theorem dX9_multiply_157 : decode cX9_multiply 157 = .ok (.iconst 1, 1) := dk_4 (dk_at dksX9_multiply_6 15 rfl rfl)
theorem dX9_multiply_158 : decode cX9_multiply 158 = .ok (.goto 4, 3) := dk_167 0 4 (dk_at dksX9_multiply_6 16 rfl rfl)
theorem dX9_multiply_161 : decode cX9_multiply 161 = .ok (.iconst 0, 1) := dk_3 (dk_at dksX9_multiply_6 19 rfl rfl)
theorem dX9_multiply_162 : decode cX9_multiply 162 = .ok (.putfield 35, 3) := dk_181 0 35 (dk_at dksX9_multiply_6 20 rfl rfl)
theorem dX9_multiply_165 : decode cX9_multiply 165 = .ok (.aload_n 2, 1) := dk_44 (dk_at dksX9_multiply_6 23 rfl rfl)
theorem dX9_multiply_166 : decode cX9_multiply 166 = .ok (.iload_n 3, 1) := dk_29 (dk_at dksX9_multiply_7 0 rfl rfl)
theorem dX9_multiply_167 : decode cX9_multiply 167 = .ok (.invokevirtual 39, 3) := dk_182 0 39 (dk_at dksX9_multiply_7 1 rfl rfl)
theorem dX9_multiply_170 : decode cX9_multiply 170 = .ok (.return_, 1) := dk_177 (dk_at dksX9_multiply_7 4 rfl rfl)
abbrev cX9_subtract : ByteArray := prog_44_method_3_code
def yX9_subtract : MethodName := ⟨RX9, "subtract", "(LWasteHouse$ShareSolve$Whole;LWasteHouse$ShareSolve$Whole;)V"⟩
def dkwX9_subtract_9 : List UInt8 := [42, 21, 6, 181, 0, 35, 42, 21, 4, 4, 96, 182, 0, 39, 177]
abbrev dktX9_subtract_9 : List UInt8 := dkwX9_subtract_9 ++ []
def dkwX9_subtract_8 : List UInt8 := [153, 0, 10, 42, 180, 0, 35, 167, 0, 15, 42, 180, 0, 35, 154, 0, 7, 4, 167, 0, 4, 3, 54, 6]
abbrev dktX9_subtract_8 : List UInt8 := dkwX9_subtract_8 ++ dktX9_subtract_9
def dkwX9_subtract_7 : List UInt8 := [167, 0, 45, 28, 153, 0, 18, 43, 180, 0, 35, 154, 0, 7, 4, 167, 0, 30, 3, 167, 0, 26, 29]
abbrev dktX9_subtract_7 : List UInt8 := dkwX9_subtract_7 ++ dktX9_subtract_8
def dkwX9_subtract_6 : List UInt8 := [180, 0, 30, 21, 4, 21, 5, 79, 28, 153, 0, 17, 42, 182, 0, 43, 154, 0, 10, 42, 180, 0, 35]
abbrev dktX9_subtract_6 : List UInt8 := dkwX9_subtract_6 ++ dktX9_subtract_7
def dkwX9_subtract_5 : List UInt8 := [21, 6, 21, 5, 18, 61, 126, 79, 21, 5, 16, 16, 122, 54, 5, 132, 6, 1, 167, 255, 177, 42]
abbrev dktX9_subtract_5 : List UInt8 := dkwX9_subtract_5 ++ dktX9_subtract_6
def dkwX9_subtract_4 : List UInt8 := [29, 153, 0, 11, 21, 7, 21, 8, 100, 167, 0, 8, 21, 8, 21, 7, 100, 96, 54, 5, 42, 180, 0, 30]
abbrev dktX9_subtract_4 : List UInt8 := dkwX9_subtract_4 ++ dktX9_subtract_5
def dkwX9_subtract_3 : List UInt8 := [54, 7, 43, 21, 6, 182, 0, 57, 54, 8, 21, 5, 28, 153, 0, 11, 21, 7, 21, 8, 96, 167, 0, 20]
abbrev dktX9_subtract_3 : List UInt8 := dkwX9_subtract_3 ++ dktX9_subtract_4
def dkwX9_subtract_2 : List UInt8 := [184, 0, 51, 54, 4, 3, 54, 5, 3, 54, 6, 21, 6, 21, 4, 162, 0, 78, 42, 21, 6, 182, 0, 57]
abbrev dktX9_subtract_2 : List UInt8 := dkwX9_subtract_2 ++ dktX9_subtract_3
def dkwX9_subtract_1 : List UInt8 := [61, 42, 43, 182, 0, 47, 155, 0, 7, 4, 167, 0, 4, 3, 62, 42, 180, 0, 26, 43, 180, 0, 26]
abbrev dktX9_subtract_1 : List UInt8 := dkwX9_subtract_1 ++ dktX9_subtract_2
def dkwX9_subtract_0 : List UInt8 := [43, 182, 0, 43, 153, 0, 4, 177, 42, 180, 0, 35, 43, 180, 0, 35, 159, 0, 7, 4, 167, 0, 4, 3]
abbrev dktX9_subtract_0 : List UInt8 := dkwX9_subtract_0 ++ dktX9_subtract_1
theorem dksX9_subtract_0 : cX9_subtract.data.toList.drop 0 = dktX9_subtract_0 := by decide +kernel
theorem dksX9_subtract_1 : cX9_subtract.data.toList.drop 24 = dktX9_subtract_1 := dk_seg dksX9_subtract_0 24 rfl rfl
theorem dksX9_subtract_2 : cX9_subtract.data.toList.drop 47 = dktX9_subtract_2 := dk_seg dksX9_subtract_1 23 rfl rfl
theorem dksX9_subtract_3 : cX9_subtract.data.toList.drop 71 = dktX9_subtract_3 := dk_seg dksX9_subtract_2 24 rfl rfl
theorem dksX9_subtract_4 : cX9_subtract.data.toList.drop 95 = dktX9_subtract_4 := dk_seg dksX9_subtract_3 24 rfl rfl
theorem dksX9_subtract_5 : cX9_subtract.data.toList.drop 119 = dktX9_subtract_5 := dk_seg dksX9_subtract_4 24 rfl rfl
theorem dksX9_subtract_6 : cX9_subtract.data.toList.drop 141 = dktX9_subtract_6 := dk_seg dksX9_subtract_5 22 rfl rfl
theorem dksX9_subtract_7 : cX9_subtract.data.toList.drop 164 = dktX9_subtract_7 := dk_seg dksX9_subtract_6 23 rfl rfl
theorem dksX9_subtract_8 : cX9_subtract.data.toList.drop 187 = dktX9_subtract_8 := dk_seg dksX9_subtract_7 23 rfl rfl
theorem dksX9_subtract_9 : cX9_subtract.data.toList.drop 211 = dktX9_subtract_9 := dk_seg dksX9_subtract_8 24 rfl rfl
theorem dX9_subtract_0 : decode cX9_subtract 0 = .ok (.aload_n 1, 1) := dk_43 (dk_at dksX9_subtract_0 0 rfl rfl)
theorem dX9_subtract_1 : decode cX9_subtract 1 = .ok (.invokevirtual 43, 3) := dk_182 0 43 (dk_at dksX9_subtract_0 1 rfl rfl)
theorem dX9_subtract_4 : decode cX9_subtract 4 = .ok (.ifCond .eq 4, 3) := dk_153 0 4 (dk_at dksX9_subtract_0 4 rfl rfl)
theorem dX9_subtract_7 : decode cX9_subtract 7 = .ok (.return_, 1) := dk_177 (dk_at dksX9_subtract_0 7 rfl rfl)
theorem dX9_subtract_8 : decode cX9_subtract 8 = .ok (.aload_n 0, 1) := dk_42 (dk_at dksX9_subtract_0 8 rfl rfl)
theorem dX9_subtract_9 : decode cX9_subtract 9 = .ok (.getfield 35, 3) := dk_180 0 35 (dk_at dksX9_subtract_0 9 rfl rfl)
theorem dX9_subtract_12 : decode cX9_subtract 12 = .ok (.aload_n 1, 1) := dk_43 (dk_at dksX9_subtract_0 12 rfl rfl)
theorem dX9_subtract_13 : decode cX9_subtract 13 = .ok (.getfield 35, 3) := dk_180 0 35 (dk_at dksX9_subtract_0 13 rfl rfl)
theorem dX9_subtract_16 : decode cX9_subtract 16 = .ok (.if_icmp .eq 7, 3) := dk_159 0 7 (dk_at dksX9_subtract_0 16 rfl rfl)
theorem dX9_subtract_19 : decode cX9_subtract 19 = .ok (.iconst 1, 1) := dk_4 (dk_at dksX9_subtract_0 19 rfl rfl)
theorem dX9_subtract_20 : decode cX9_subtract 20 = .ok (.goto 4, 3) := dk_167 0 4 (dk_at dksX9_subtract_0 20 rfl rfl)
theorem dX9_subtract_23 : decode cX9_subtract 23 = .ok (.iconst 0, 1) := dk_3 (dk_at dksX9_subtract_0 23 rfl rfl)
theorem dX9_subtract_24 : decode cX9_subtract 24 = .ok (.istore_n 2, 1) := dk_61 (dk_at dksX9_subtract_1 0 rfl rfl)
theorem dX9_subtract_25 : decode cX9_subtract 25 = .ok (.aload_n 0, 1) := dk_42 (dk_at dksX9_subtract_1 1 rfl rfl)
theorem dX9_subtract_26 : decode cX9_subtract 26 = .ok (.aload_n 1, 1) := dk_43 (dk_at dksX9_subtract_1 2 rfl rfl)
theorem dX9_subtract_27 : decode cX9_subtract 27 = .ok (.invokevirtual 47, 3) := dk_182 0 47 (dk_at dksX9_subtract_1 3 rfl rfl)
theorem dX9_subtract_30 : decode cX9_subtract 30 = .ok (.ifCond .lt 7, 3) := dk_155 0 7 (dk_at dksX9_subtract_1 6 rfl rfl)
theorem dX9_subtract_33 : decode cX9_subtract 33 = .ok (.iconst 1, 1) := dk_4 (dk_at dksX9_subtract_1 9 rfl rfl)
theorem dX9_subtract_34 : decode cX9_subtract 34 = .ok (.goto 4, 3) := dk_167 0 4 (dk_at dksX9_subtract_1 10 rfl rfl)
theorem dX9_subtract_37 : decode cX9_subtract 37 = .ok (.iconst 0, 1) := dk_3 (dk_at dksX9_subtract_1 13 rfl rfl)
theorem dX9_subtract_38 : decode cX9_subtract 38 = .ok (.istore_n 3, 1) := dk_62 (dk_at dksX9_subtract_1 14 rfl rfl)
theorem dX9_subtract_39 : decode cX9_subtract 39 = .ok (.aload_n 0, 1) := dk_42 (dk_at dksX9_subtract_1 15 rfl rfl)
theorem dX9_subtract_40 : decode cX9_subtract 40 = .ok (.getfield 26, 3) := dk_180 0 26 (dk_at dksX9_subtract_1 16 rfl rfl)
theorem dX9_subtract_43 : decode cX9_subtract 43 = .ok (.aload_n 1, 1) := dk_43 (dk_at dksX9_subtract_1 19 rfl rfl)
theorem dX9_subtract_44 : decode cX9_subtract 44 = .ok (.getfield 26, 3) := dk_180 0 26 (dk_at dksX9_subtract_1 20 rfl rfl)
theorem dX9_subtract_47 : decode cX9_subtract 47 = .ok (.invokestatic 51, 3) := dk_184 0 51 (dk_at dksX9_subtract_2 0 rfl rfl)
theorem dX9_subtract_50 : decode cX9_subtract 50 = .ok (.istore 4, 2) := dk_54 4 (dk_at dksX9_subtract_2 3 rfl rfl)
theorem dX9_subtract_52 : decode cX9_subtract 52 = .ok (.iconst 0, 1) := dk_3 (dk_at dksX9_subtract_2 5 rfl rfl)
theorem dX9_subtract_53 : decode cX9_subtract 53 = .ok (.istore 5, 2) := dk_54 5 (dk_at dksX9_subtract_2 6 rfl rfl)
theorem dX9_subtract_55 : decode cX9_subtract 55 = .ok (.iconst 0, 1) := dk_3 (dk_at dksX9_subtract_2 8 rfl rfl)
theorem dX9_subtract_56 : decode cX9_subtract 56 = .ok (.istore 6, 2) := dk_54 6 (dk_at dksX9_subtract_2 9 rfl rfl)
theorem dX9_subtract_58 : decode cX9_subtract 58 = .ok (.iload 6, 2) := dk_21 6 (dk_at dksX9_subtract_2 11 rfl rfl)
theorem dX9_subtract_60 : decode cX9_subtract 60 = .ok (.iload 4, 2) := dk_21 4 (dk_at dksX9_subtract_2 13 rfl rfl)
theorem dX9_subtract_62 : decode cX9_subtract 62 = .ok (.if_icmp .ge 78, 3) := dk_162 0 78 (dk_at dksX9_subtract_2 15 rfl rfl)
theorem dX9_subtract_65 : decode cX9_subtract 65 = .ok (.aload_n 0, 1) := dk_42 (dk_at dksX9_subtract_2 18 rfl rfl)
theorem dX9_subtract_66 : decode cX9_subtract 66 = .ok (.iload 6, 2) := dk_21 6 (dk_at dksX9_subtract_2 19 rfl rfl)
theorem dX9_subtract_68 : decode cX9_subtract 68 = .ok (.invokevirtual 57, 3) := dk_182 0 57 (dk_at dksX9_subtract_2 21 rfl rfl)
theorem dX9_subtract_71 : decode cX9_subtract 71 = .ok (.istore 7, 2) := dk_54 7 (dk_at dksX9_subtract_3 0 rfl rfl)
theorem dX9_subtract_73 : decode cX9_subtract 73 = .ok (.aload_n 1, 1) := dk_43 (dk_at dksX9_subtract_3 2 rfl rfl)
theorem dX9_subtract_74 : decode cX9_subtract 74 = .ok (.iload 6, 2) := dk_21 6 (dk_at dksX9_subtract_3 3 rfl rfl)
theorem dX9_subtract_76 : decode cX9_subtract 76 = .ok (.invokevirtual 57, 3) := dk_182 0 57 (dk_at dksX9_subtract_3 5 rfl rfl)
theorem dX9_subtract_79 : decode cX9_subtract 79 = .ok (.istore 8, 2) := dk_54 8 (dk_at dksX9_subtract_3 8 rfl rfl)
theorem dX9_subtract_81 : decode cX9_subtract 81 = .ok (.iload 5, 2) := dk_21 5 (dk_at dksX9_subtract_3 10 rfl rfl)
theorem dX9_subtract_83 : decode cX9_subtract 83 = .ok (.iload_n 2, 1) := dk_28 (dk_at dksX9_subtract_3 12 rfl rfl)
theorem dX9_subtract_84 : decode cX9_subtract 84 = .ok (.ifCond .eq 11, 3) := dk_153 0 11 (dk_at dksX9_subtract_3 13 rfl rfl)
theorem dX9_subtract_87 : decode cX9_subtract 87 = .ok (.iload 7, 2) := dk_21 7 (dk_at dksX9_subtract_3 16 rfl rfl)
theorem dX9_subtract_89 : decode cX9_subtract 89 = .ok (.iload 8, 2) := dk_21 8 (dk_at dksX9_subtract_3 18 rfl rfl)
theorem dX9_subtract_91 : decode cX9_subtract 91 = .ok (.iadd, 1) := dk_96 (dk_at dksX9_subtract_3 20 rfl rfl)
theorem dX9_subtract_92 : decode cX9_subtract 92 = .ok (.goto 20, 3) := dk_167 0 20 (dk_at dksX9_subtract_3 21 rfl rfl)
theorem dX9_subtract_95 : decode cX9_subtract 95 = .ok (.iload_n 3, 1) := dk_29 (dk_at dksX9_subtract_4 0 rfl rfl)
theorem dX9_subtract_96 : decode cX9_subtract 96 = .ok (.ifCond .eq 11, 3) := dk_153 0 11 (dk_at dksX9_subtract_4 1 rfl rfl)
theorem dX9_subtract_99 : decode cX9_subtract 99 = .ok (.iload 7, 2) := dk_21 7 (dk_at dksX9_subtract_4 4 rfl rfl)
theorem dX9_subtract_101 : decode cX9_subtract 101 = .ok (.iload 8, 2) := dk_21 8 (dk_at dksX9_subtract_4 6 rfl rfl)
theorem dX9_subtract_103 : decode cX9_subtract 103 = .ok (.isub, 1) := dk_100 (dk_at dksX9_subtract_4 8 rfl rfl)
theorem dX9_subtract_104 : decode cX9_subtract 104 = .ok (.goto 8, 3) := dk_167 0 8 (dk_at dksX9_subtract_4 9 rfl rfl)
theorem dX9_subtract_107 : decode cX9_subtract 107 = .ok (.iload 8, 2) := dk_21 8 (dk_at dksX9_subtract_4 12 rfl rfl)
theorem dX9_subtract_109 : decode cX9_subtract 109 = .ok (.iload 7, 2) := dk_21 7 (dk_at dksX9_subtract_4 14 rfl rfl)
theorem dX9_subtract_111 : decode cX9_subtract 111 = .ok (.isub, 1) := dk_100 (dk_at dksX9_subtract_4 16 rfl rfl)
theorem dX9_subtract_112 : decode cX9_subtract 112 = .ok (.iadd, 1) := dk_96 (dk_at dksX9_subtract_4 17 rfl rfl)
theorem dX9_subtract_113 : decode cX9_subtract 113 = .ok (.istore 5, 2) := dk_54 5 (dk_at dksX9_subtract_4 18 rfl rfl)
theorem dX9_subtract_115 : decode cX9_subtract 115 = .ok (.aload_n 0, 1) := dk_42 (dk_at dksX9_subtract_4 20 rfl rfl)
theorem dX9_subtract_116 : decode cX9_subtract 116 = .ok (.getfield 30, 3) := dk_180 0 30 (dk_at dksX9_subtract_4 21 rfl rfl)
theorem dX9_subtract_119 : decode cX9_subtract 119 = .ok (.iload 6, 2) := dk_21 6 (dk_at dksX9_subtract_5 0 rfl rfl)
theorem dX9_subtract_121 : decode cX9_subtract 121 = .ok (.iload 5, 2) := dk_21 5 (dk_at dksX9_subtract_5 2 rfl rfl)
theorem dX9_subtract_123 : decode cX9_subtract 123 = .ok (.ldc 61, 2) := dk_18 61 (dk_at dksX9_subtract_5 4 rfl rfl)
theorem dX9_subtract_125 : decode cX9_subtract 125 = .ok (.iand, 1) := dk_126 (dk_at dksX9_subtract_5 6 rfl rfl)
theorem dX9_subtract_126 : decode cX9_subtract 126 = .ok (.iastore, 1) := dk_79 (dk_at dksX9_subtract_5 7 rfl rfl)
theorem dX9_subtract_127 : decode cX9_subtract 127 = .ok (.iload 5, 2) := dk_21 5 (dk_at dksX9_subtract_5 8 rfl rfl)
theorem dX9_subtract_129 : decode cX9_subtract 129 = .ok (.bipush 16, 2) := dk_16 16 (dk_at dksX9_subtract_5 10 rfl rfl)
theorem dX9_subtract_131 : decode cX9_subtract 131 = .ok (.ishr, 1) := dk_122 (dk_at dksX9_subtract_5 12 rfl rfl)
theorem dX9_subtract_132 : decode cX9_subtract 132 = .ok (.istore 5, 2) := dk_54 5 (dk_at dksX9_subtract_5 13 rfl rfl)
theorem dX9_subtract_134 : decode cX9_subtract 134 = .ok (.iinc 6 1, 3) := dk_132 6 1 (dk_at dksX9_subtract_5 15 rfl rfl)
theorem dX9_subtract_137 : decode cX9_subtract 137 = .ok (.goto (-79), 3) := dk_167 255 177 (dk_at dksX9_subtract_5 18 rfl rfl)
theorem dX9_subtract_140 : decode cX9_subtract 140 = .ok (.aload_n 0, 1) := dk_42 (dk_at dksX9_subtract_5 21 rfl rfl)
theorem dX9_subtract_141 : decode cX9_subtract 141 = .ok (.getfield 30, 3) := dk_180 0 30 (dk_at dksX9_subtract_6 0 rfl rfl)
theorem dX9_subtract_144 : decode cX9_subtract 144 = .ok (.iload 4, 2) := dk_21 4 (dk_at dksX9_subtract_6 3 rfl rfl)
theorem dX9_subtract_146 : decode cX9_subtract 146 = .ok (.iload 5, 2) := dk_21 5 (dk_at dksX9_subtract_6 5 rfl rfl)
theorem dX9_subtract_148 : decode cX9_subtract 148 = .ok (.iastore, 1) := dk_79 (dk_at dksX9_subtract_6 7 rfl rfl)
theorem dX9_subtract_149 : decode cX9_subtract 149 = .ok (.iload_n 2, 1) := dk_28 (dk_at dksX9_subtract_6 8 rfl rfl)
theorem dX9_subtract_150 : decode cX9_subtract 150 = .ok (.ifCond .eq 17, 3) := dk_153 0 17 (dk_at dksX9_subtract_6 9 rfl rfl)
theorem dX9_subtract_153 : decode cX9_subtract 153 = .ok (.aload_n 0, 1) := dk_42 (dk_at dksX9_subtract_6 12 rfl rfl)
theorem dX9_subtract_154 : decode cX9_subtract 154 = .ok (.invokevirtual 43, 3) := dk_182 0 43 (dk_at dksX9_subtract_6 13 rfl rfl)
theorem dX9_subtract_157 : decode cX9_subtract 157 = .ok (.ifCond .ne 10, 3) := dk_154 0 10 (dk_at dksX9_subtract_6 16 rfl rfl)
theorem dX9_subtract_160 : decode cX9_subtract 160 = .ok (.aload_n 0, 1) := dk_42 (dk_at dksX9_subtract_6 19 rfl rfl)
theorem dX9_subtract_161 : decode cX9_subtract 161 = .ok (.getfield 35, 3) := dk_180 0 35 (dk_at dksX9_subtract_6 20 rfl rfl)
theorem dX9_subtract_164 : decode cX9_subtract 164 = .ok (.goto 45, 3) := dk_167 0 45 (dk_at dksX9_subtract_7 0 rfl rfl)
theorem dX9_subtract_167 : decode cX9_subtract 167 = .ok (.iload_n 2, 1) := dk_28 (dk_at dksX9_subtract_7 3 rfl rfl)
theorem dX9_subtract_168 : decode cX9_subtract 168 = .ok (.ifCond .eq 18, 3) := dk_153 0 18 (dk_at dksX9_subtract_7 4 rfl rfl)
theorem dX9_subtract_171 : decode cX9_subtract 171 = .ok (.aload_n 1, 1) := dk_43 (dk_at dksX9_subtract_7 7 rfl rfl)
theorem dX9_subtract_172 : decode cX9_subtract 172 = .ok (.getfield 35, 3) := dk_180 0 35 (dk_at dksX9_subtract_7 8 rfl rfl)
theorem dX9_subtract_175 : decode cX9_subtract 175 = .ok (.ifCond .ne 7, 3) := dk_154 0 7 (dk_at dksX9_subtract_7 11 rfl rfl)
theorem dX9_subtract_178 : decode cX9_subtract 178 = .ok (.iconst 1, 1) := dk_4 (dk_at dksX9_subtract_7 14 rfl rfl)
theorem dX9_subtract_179 : decode cX9_subtract 179 = .ok (.goto 30, 3) := dk_167 0 30 (dk_at dksX9_subtract_7 15 rfl rfl)
theorem dX9_subtract_182 : decode cX9_subtract 182 = .ok (.iconst 0, 1) := dk_3 (dk_at dksX9_subtract_7 18 rfl rfl)
theorem dX9_subtract_183 : decode cX9_subtract 183 = .ok (.goto 26, 3) := dk_167 0 26 (dk_at dksX9_subtract_7 19 rfl rfl)
theorem dX9_subtract_186 : decode cX9_subtract 186 = .ok (.iload_n 3, 1) := dk_29 (dk_at dksX9_subtract_7 22 rfl rfl)
theorem dX9_subtract_187 : decode cX9_subtract 187 = .ok (.ifCond .eq 10, 3) := dk_153 0 10 (dk_at dksX9_subtract_8 0 rfl rfl)
theorem dX9_subtract_190 : decode cX9_subtract 190 = .ok (.aload_n 0, 1) := dk_42 (dk_at dksX9_subtract_8 3 rfl rfl)
theorem dX9_subtract_191 : decode cX9_subtract 191 = .ok (.getfield 35, 3) := dk_180 0 35 (dk_at dksX9_subtract_8 4 rfl rfl)
theorem dX9_subtract_194 : decode cX9_subtract 194 = .ok (.goto 15, 3) := dk_167 0 15 (dk_at dksX9_subtract_8 7 rfl rfl)
theorem dX9_subtract_197 : decode cX9_subtract 197 = .ok (.aload_n 0, 1) := dk_42 (dk_at dksX9_subtract_8 10 rfl rfl)
theorem dX9_subtract_198 : decode cX9_subtract 198 = .ok (.getfield 35, 3) := dk_180 0 35 (dk_at dksX9_subtract_8 11 rfl rfl)
theorem dX9_subtract_201 : decode cX9_subtract 201 = .ok (.ifCond .ne 7, 3) := dk_154 0 7 (dk_at dksX9_subtract_8 14 rfl rfl)
theorem dX9_subtract_204 : decode cX9_subtract 204 = .ok (.iconst 1, 1) := dk_4 (dk_at dksX9_subtract_8 17 rfl rfl)
theorem dX9_subtract_205 : decode cX9_subtract 205 = .ok (.goto 4, 3) := dk_167 0 4 (dk_at dksX9_subtract_8 18 rfl rfl)
theorem dX9_subtract_208 : decode cX9_subtract 208 = .ok (.iconst 0, 1) := dk_3 (dk_at dksX9_subtract_8 21 rfl rfl)
theorem dX9_subtract_209 : decode cX9_subtract 209 = .ok (.istore 6, 2) := dk_54 6 (dk_at dksX9_subtract_8 22 rfl rfl)
theorem dX9_subtract_211 : decode cX9_subtract 211 = .ok (.aload_n 0, 1) := dk_42 (dk_at dksX9_subtract_9 0 rfl rfl)
theorem dX9_subtract_212 : decode cX9_subtract 212 = .ok (.iload 6, 2) := dk_21 6 (dk_at dksX9_subtract_9 1 rfl rfl)
theorem dX9_subtract_214 : decode cX9_subtract 214 = .ok (.putfield 35, 3) := dk_181 0 35 (dk_at dksX9_subtract_9 3 rfl rfl)
theorem dX9_subtract_217 : decode cX9_subtract 217 = .ok (.aload_n 0, 1) := dk_42 (dk_at dksX9_subtract_9 6 rfl rfl)
theorem dX9_subtract_218 : decode cX9_subtract 218 = .ok (.iload 4, 2) := dk_21 4 (dk_at dksX9_subtract_9 7 rfl rfl)
theorem dX9_subtract_220 : decode cX9_subtract 220 = .ok (.iconst 1, 1) := dk_4 (dk_at dksX9_subtract_9 9 rfl rfl)
theorem dX9_subtract_221 : decode cX9_subtract 221 = .ok (.iadd, 1) := dk_96 (dk_at dksX9_subtract_9 10 rfl rfl)
theorem dX9_subtract_222 : decode cX9_subtract 222 = .ok (.invokevirtual 39, 3) := dk_182 0 39 (dk_at dksX9_subtract_9 11 rfl rfl)
theorem dX9_subtract_225 : decode cX9_subtract 225 = .ok (.return_, 1) := dk_177 (dk_at dksX9_subtract_9 14 rfl rfl)
abbrev cX9_cross : ByteArray := prog_44_method_4_code
def yX9_cross : MethodName := ⟨RX9, "cross", "(LWasteHouse$ShareSolve$Whole;LWasteHouse$ShareSolve$Whole;LWasteHouse$ShareSolve$Whole;LWasteHouse$ShareSolve$Whole;LWasteHouse$ShareSolve$Whole;)V"⟩
def dkwX9_cross_1 : List UInt8 := [184, 0, 66, 177]
abbrev dktX9_cross_1 : List UInt8 := dkwX9_cross_1 ++ []
def dkwX9_cross_0 : List UInt8 := [43, 44, 25, 5, 184, 0, 62, 45, 25, 4, 42, 180, 0, 10, 184, 0, 62, 25, 5, 42, 180, 0, 10]
abbrev dktX9_cross_0 : List UInt8 := dkwX9_cross_0 ++ dktX9_cross_1
theorem dksX9_cross_0 : cX9_cross.data.toList.drop 0 = dktX9_cross_0 := by decide +kernel
theorem dksX9_cross_1 : cX9_cross.data.toList.drop 23 = dktX9_cross_1 := dk_seg dksX9_cross_0 23 rfl rfl
theorem dX9_cross_0 : decode cX9_cross 0 = .ok (.aload_n 1, 1) := dk_43 (dk_at dksX9_cross_0 0 rfl rfl)
theorem dX9_cross_1 : decode cX9_cross 1 = .ok (.aload_n 2, 1) := dk_44 (dk_at dksX9_cross_0 1 rfl rfl)
theorem dX9_cross_2 : decode cX9_cross 2 = .ok (.aload 5, 2) := dk_25 5 (dk_at dksX9_cross_0 2 rfl rfl)
theorem dX9_cross_4 : decode cX9_cross 4 = .ok (.invokestatic 62, 3) := dk_184 0 62 (dk_at dksX9_cross_0 4 rfl rfl)
theorem dX9_cross_7 : decode cX9_cross 7 = .ok (.aload_n 3, 1) := dk_45 (dk_at dksX9_cross_0 7 rfl rfl)
theorem dX9_cross_8 : decode cX9_cross 8 = .ok (.aload 4, 2) := dk_25 4 (dk_at dksX9_cross_0 8 rfl rfl)
theorem dX9_cross_10 : decode cX9_cross 10 = .ok (.aload_n 0, 1) := dk_42 (dk_at dksX9_cross_0 10 rfl rfl)
theorem dX9_cross_11 : decode cX9_cross 11 = .ok (.getfield 10, 3) := dk_180 0 10 (dk_at dksX9_cross_0 11 rfl rfl)
theorem dX9_cross_14 : decode cX9_cross 14 = .ok (.invokestatic 62, 3) := dk_184 0 62 (dk_at dksX9_cross_0 14 rfl rfl)
theorem dX9_cross_17 : decode cX9_cross 17 = .ok (.aload 5, 2) := dk_25 5 (dk_at dksX9_cross_0 17 rfl rfl)
theorem dX9_cross_19 : decode cX9_cross 19 = .ok (.aload_n 0, 1) := dk_42 (dk_at dksX9_cross_0 19 rfl rfl)
theorem dX9_cross_20 : decode cX9_cross 20 = .ok (.getfield 10, 3) := dk_180 0 10 (dk_at dksX9_cross_0 20 rfl rfl)
theorem dX9_cross_23 : decode cX9_cross 23 = .ok (.invokestatic 66, 3) := dk_184 0 66 (dk_at dksX9_cross_1 0 rfl rfl)
theorem dX9_cross_26 : decode cX9_cross 26 = .ok (.return_, 1) := dk_177 (dk_at dksX9_cross_1 3 rfl rfl)
abbrev cX9_exact : ByteArray := prog_44_method_9_code
def yX9_exact : MethodName := ⟨RX9, "exact", "(LWasteHouse$ShareSolve$Whole;LWasteHouse$ShareSolve$Whole;)V"⟩
def dkwX9_exact_2 : List UInt8 := [167, 0, 4, 3, 181, 0, 35, 177]
abbrev dktX9_exact_2 : List UInt8 := dkwX9_exact_2 ++ []
def dkwX9_exact_1 : List UInt8 := [182, 0, 93, 43, 42, 180, 0, 16, 182, 0, 89, 43, 29, 153, 0, 14, 43, 182, 0, 43, 154, 0, 7, 4]
abbrev dktX9_exact_1 : List UInt8 := dkwX9_exact_1 ++ dktX9_exact_2
def dkwX9_exact_0 : List UInt8 := [43, 180, 0, 35, 44, 180, 0, 35, 159, 0, 7, 4, 167, 0, 4, 3, 62, 42, 43, 44, 42, 180, 0, 16]
abbrev dktX9_exact_0 : List UInt8 := dkwX9_exact_0 ++ dktX9_exact_1
theorem dksX9_exact_0 : cX9_exact.data.toList.drop 0 = dktX9_exact_0 := by decide +kernel
theorem dksX9_exact_1 : cX9_exact.data.toList.drop 24 = dktX9_exact_1 := dk_seg dksX9_exact_0 24 rfl rfl
theorem dksX9_exact_2 : cX9_exact.data.toList.drop 48 = dktX9_exact_2 := dk_seg dksX9_exact_1 24 rfl rfl
theorem dX9_exact_0 : decode cX9_exact 0 = .ok (.aload_n 1, 1) := dk_43 (dk_at dksX9_exact_0 0 rfl rfl)
theorem dX9_exact_1 : decode cX9_exact 1 = .ok (.getfield 35, 3) := dk_180 0 35 (dk_at dksX9_exact_0 1 rfl rfl)
theorem dX9_exact_4 : decode cX9_exact 4 = .ok (.aload_n 2, 1) := dk_44 (dk_at dksX9_exact_0 4 rfl rfl)
theorem dX9_exact_5 : decode cX9_exact 5 = .ok (.getfield 35, 3) := dk_180 0 35 (dk_at dksX9_exact_0 5 rfl rfl)
theorem dX9_exact_8 : decode cX9_exact 8 = .ok (.if_icmp .eq 7, 3) := dk_159 0 7 (dk_at dksX9_exact_0 8 rfl rfl)
theorem dX9_exact_11 : decode cX9_exact 11 = .ok (.iconst 1, 1) := dk_4 (dk_at dksX9_exact_0 11 rfl rfl)
theorem dX9_exact_12 : decode cX9_exact 12 = .ok (.goto 4, 3) := dk_167 0 4 (dk_at dksX9_exact_0 12 rfl rfl)
theorem dX9_exact_15 : decode cX9_exact 15 = .ok (.iconst 0, 1) := dk_3 (dk_at dksX9_exact_0 15 rfl rfl)
theorem dX9_exact_16 : decode cX9_exact 16 = .ok (.istore_n 3, 1) := dk_62 (dk_at dksX9_exact_0 16 rfl rfl)
theorem dX9_exact_17 : decode cX9_exact 17 = .ok (.aload_n 0, 1) := dk_42 (dk_at dksX9_exact_0 17 rfl rfl)
theorem dX9_exact_18 : decode cX9_exact 18 = .ok (.aload_n 1, 1) := dk_43 (dk_at dksX9_exact_0 18 rfl rfl)
theorem dX9_exact_19 : decode cX9_exact 19 = .ok (.aload_n 2, 1) := dk_44 (dk_at dksX9_exact_0 19 rfl rfl)
theorem dX9_exact_20 : decode cX9_exact 20 = .ok (.aload_n 0, 1) := dk_42 (dk_at dksX9_exact_0 20 rfl rfl)
theorem dX9_exact_21 : decode cX9_exact 21 = .ok (.getfield 16, 3) := dk_180 0 16 (dk_at dksX9_exact_0 21 rfl rfl)
theorem dX9_exact_24 : decode cX9_exact 24 = .ok (.invokevirtual 93, 3) := dk_182 0 93 (dk_at dksX9_exact_1 0 rfl rfl)
theorem dX9_exact_27 : decode cX9_exact 27 = .ok (.aload_n 1, 1) := dk_43 (dk_at dksX9_exact_1 3 rfl rfl)
theorem dX9_exact_28 : decode cX9_exact 28 = .ok (.aload_n 0, 1) := dk_42 (dk_at dksX9_exact_1 4 rfl rfl)
theorem dX9_exact_29 : decode cX9_exact 29 = .ok (.getfield 16, 3) := dk_180 0 16 (dk_at dksX9_exact_1 5 rfl rfl)
theorem dX9_exact_32 : decode cX9_exact 32 = .ok (.invokevirtual 89, 3) := dk_182 0 89 (dk_at dksX9_exact_1 8 rfl rfl)
theorem dX9_exact_35 : decode cX9_exact 35 = .ok (.aload_n 1, 1) := dk_43 (dk_at dksX9_exact_1 11 rfl rfl)
theorem dX9_exact_36 : decode cX9_exact 36 = .ok (.iload_n 3, 1) := dk_29 (dk_at dksX9_exact_1 12 rfl rfl)
theorem dX9_exact_37 : decode cX9_exact 37 = .ok (.ifCond .eq 14, 3) := dk_153 0 14 (dk_at dksX9_exact_1 13 rfl rfl)
theorem dX9_exact_40 : decode cX9_exact 40 = .ok (.aload_n 1, 1) := dk_43 (dk_at dksX9_exact_1 16 rfl rfl)
theorem dX9_exact_41 : decode cX9_exact 41 = .ok (.invokevirtual 43, 3) := dk_182 0 43 (dk_at dksX9_exact_1 17 rfl rfl)
theorem dX9_exact_44 : decode cX9_exact 44 = .ok (.ifCond .ne 7, 3) := dk_154 0 7 (dk_at dksX9_exact_1 20 rfl rfl)
theorem dX9_exact_47 : decode cX9_exact 47 = .ok (.iconst 1, 1) := dk_4 (dk_at dksX9_exact_1 23 rfl rfl)
theorem dX9_exact_48 : decode cX9_exact 48 = .ok (.goto 4, 3) := dk_167 0 4 (dk_at dksX9_exact_2 0 rfl rfl)
theorem dX9_exact_51 : decode cX9_exact 51 = .ok (.iconst 0, 1) := dk_3 (dk_at dksX9_exact_2 3 rfl rfl)
theorem dX9_exact_52 : decode cX9_exact 52 = .ok (.putfield 35, 3) := dk_181 0 35 (dk_at dksX9_exact_2 4 rfl rfl)
theorem dX9_exact_55 : decode cX9_exact 55 = .ok (.return_, 1) := dk_177 (dk_at dksX9_exact_2 7 rfl rfl)
abbrev cX9_divide : ByteArray := prog_44_method_5_code
def yX9_divide : MethodName := ⟨RX9, "divide", "(LWasteHouse$ShareSolve$Whole;LWasteHouse$ShareSolve$Whole;LWasteHouse$ShareSolve$Whole;)V"⟩
def dkwX9_divide_9 : List UInt8 := [21, 7, 182, 0, 39, 177]
abbrev dktX9_divide_9 : List UInt8 := dkwX9_divide_9 ++ []
def dkwX9_divide_8 : List UInt8 := [21, 8, 4, 96, 46, 16, 16, 120, 128, 21, 6, 124, 18, 61, 126, 79, 132, 8, 1, 167, 255, 213, 43]
abbrev dktX9_divide_8 : List UInt8 := dkwX9_divide_8 ++ dktX9_divide_9
def dkwX9_divide_7 : List UInt8 := [21, 8, 21, 7, 162, 0, 42, 43, 180, 0, 30, 21, 8, 42, 180, 0, 22, 21, 8, 46, 42, 180, 0, 22]
abbrev dktX9_divide_7 : List UInt8 := dkwX9_divide_7 ++ dktX9_divide_8
def dkwX9_divide_6 : List UInt8 := [181, 0, 35, 45, 21, 5, 182, 0, 39, 21, 4, 43, 180, 0, 26, 184, 0, 79, 54, 7, 3, 54, 8]
abbrev dktX9_divide_6 : List UInt8 := dkwX9_divide_6 ++ dktX9_divide_7
def dkwX9_divide_5 : List UInt8 := [180, 0, 30, 21, 7, 42, 21, 7, 44, 21, 6, 182, 0, 75, 79, 132, 7, 255, 167, 255, 232, 45, 3]
abbrev dktX9_divide_5 : List UInt8 := dkwX9_divide_5 ++ dktX9_divide_6
def dkwX9_divide_4 : List UInt8 := [18, 61, 126, 79, 132, 7, 1, 167, 255, 200, 21, 5, 4, 100, 54, 7, 21, 7, 155, 0, 25, 45]
abbrev dktX9_divide_4 : List UInt8 := dkwX9_divide_4 ++ dktX9_divide_5
def dkwX9_divide_3 : List UInt8 := [154, 0, 7, 3, 167, 0, 18, 43, 180, 0, 30, 21, 7, 4, 100, 46, 16, 16, 21, 6, 100, 122, 128]
abbrev dktX9_divide_3 : List UInt8 := dkwX9_divide_3 ++ dktX9_divide_4
def dkwX9_divide_2 : List UInt8 := [180, 0, 26, 163, 0, 53, 42, 180, 0, 22, 21, 7, 43, 21, 7, 182, 0, 57, 21, 6, 120, 21, 7]
abbrev dktX9_divide_2 : List UInt8 := dkwX9_divide_2 ++ dktX9_divide_3
def dkwX9_divide_1 : List UInt8 := [180, 0, 30, 21, 4, 4, 100, 46, 184, 0, 70, 16, 16, 100, 54, 6, 3, 54, 7, 21, 7, 43]
abbrev dktX9_divide_1 : List UInt8 := dkwX9_divide_1 ++ dktX9_divide_2
def dkwX9_divide_0 : List UInt8 := [44, 180, 0, 26, 54, 4, 3, 43, 180, 0, 26, 21, 4, 100, 4, 96, 184, 0, 51, 54, 5, 44]
abbrev dktX9_divide_0 : List UInt8 := dkwX9_divide_0 ++ dktX9_divide_1
theorem dksX9_divide_0 : cX9_divide.data.toList.drop 0 = dktX9_divide_0 := by decide +kernel
theorem dksX9_divide_1 : cX9_divide.data.toList.drop 22 = dktX9_divide_1 := dk_seg dksX9_divide_0 22 rfl rfl
theorem dksX9_divide_2 : cX9_divide.data.toList.drop 44 = dktX9_divide_2 := dk_seg dksX9_divide_1 22 rfl rfl
theorem dksX9_divide_3 : cX9_divide.data.toList.drop 67 = dktX9_divide_3 := dk_seg dksX9_divide_2 23 rfl rfl
theorem dksX9_divide_4 : cX9_divide.data.toList.drop 90 = dktX9_divide_4 := dk_seg dksX9_divide_3 23 rfl rfl
theorem dksX9_divide_5 : cX9_divide.data.toList.drop 112 = dktX9_divide_5 := dk_seg dksX9_divide_4 22 rfl rfl
theorem dksX9_divide_6 : cX9_divide.data.toList.drop 135 = dktX9_divide_6 := dk_seg dksX9_divide_5 23 rfl rfl
theorem dksX9_divide_7 : cX9_divide.data.toList.drop 158 = dktX9_divide_7 := dk_seg dksX9_divide_6 23 rfl rfl
theorem dksX9_divide_8 : cX9_divide.data.toList.drop 182 = dktX9_divide_8 := dk_seg dksX9_divide_7 24 rfl rfl
theorem dksX9_divide_9 : cX9_divide.data.toList.drop 205 = dktX9_divide_9 := dk_seg dksX9_divide_8 23 rfl rfl
theorem dX9_divide_0 : decode cX9_divide 0 = .ok (.aload_n 2, 1) := dk_44 (dk_at dksX9_divide_0 0 rfl rfl)
theorem dX9_divide_1 : decode cX9_divide 1 = .ok (.getfield 26, 3) := dk_180 0 26 (dk_at dksX9_divide_0 1 rfl rfl)
theorem dX9_divide_4 : decode cX9_divide 4 = .ok (.istore 4, 2) := dk_54 4 (dk_at dksX9_divide_0 4 rfl rfl)
theorem dX9_divide_6 : decode cX9_divide 6 = .ok (.iconst 0, 1) := dk_3 (dk_at dksX9_divide_0 6 rfl rfl)
theorem dX9_divide_7 : decode cX9_divide 7 = .ok (.aload_n 1, 1) := dk_43 (dk_at dksX9_divide_0 7 rfl rfl)
theorem dX9_divide_8 : decode cX9_divide 8 = .ok (.getfield 26, 3) := dk_180 0 26 (dk_at dksX9_divide_0 8 rfl rfl)
theorem dX9_divide_11 : decode cX9_divide 11 = .ok (.iload 4, 2) := dk_21 4 (dk_at dksX9_divide_0 11 rfl rfl)
theorem dX9_divide_13 : decode cX9_divide 13 = .ok (.isub, 1) := dk_100 (dk_at dksX9_divide_0 13 rfl rfl)
theorem dX9_divide_14 : decode cX9_divide 14 = .ok (.iconst 1, 1) := dk_4 (dk_at dksX9_divide_0 14 rfl rfl)
theorem dX9_divide_15 : decode cX9_divide 15 = .ok (.iadd, 1) := dk_96 (dk_at dksX9_divide_0 15 rfl rfl)
theorem dX9_divide_16 : decode cX9_divide 16 = .ok (.invokestatic 51, 3) := dk_184 0 51 (dk_at dksX9_divide_0 16 rfl rfl)
theorem dX9_divide_19 : decode cX9_divide 19 = .ok (.istore 5, 2) := dk_54 5 (dk_at dksX9_divide_0 19 rfl rfl)
theorem dX9_divide_21 : decode cX9_divide 21 = .ok (.aload_n 2, 1) := dk_44 (dk_at dksX9_divide_0 21 rfl rfl)
theorem dX9_divide_22 : decode cX9_divide 22 = .ok (.getfield 30, 3) := dk_180 0 30 (dk_at dksX9_divide_1 0 rfl rfl)
theorem dX9_divide_25 : decode cX9_divide 25 = .ok (.iload 4, 2) := dk_21 4 (dk_at dksX9_divide_1 3 rfl rfl)
theorem dX9_divide_27 : decode cX9_divide 27 = .ok (.iconst 1, 1) := dk_4 (dk_at dksX9_divide_1 5 rfl rfl)
theorem dX9_divide_28 : decode cX9_divide 28 = .ok (.isub, 1) := dk_100 (dk_at dksX9_divide_1 6 rfl rfl)
theorem dX9_divide_29 : decode cX9_divide 29 = .ok (.iaload, 1) := dk_46 (dk_at dksX9_divide_1 7 rfl rfl)
theorem dX9_divide_30 : decode cX9_divide 30 = .ok (.invokestatic 70, 3) := dk_184 0 70 (dk_at dksX9_divide_1 8 rfl rfl)
theorem dX9_divide_33 : decode cX9_divide 33 = .ok (.bipush 16, 2) := dk_16 16 (dk_at dksX9_divide_1 11 rfl rfl)
theorem dX9_divide_35 : decode cX9_divide 35 = .ok (.isub, 1) := dk_100 (dk_at dksX9_divide_1 13 rfl rfl)
theorem dX9_divide_36 : decode cX9_divide 36 = .ok (.istore 6, 2) := dk_54 6 (dk_at dksX9_divide_1 14 rfl rfl)
theorem dX9_divide_38 : decode cX9_divide 38 = .ok (.iconst 0, 1) := dk_3 (dk_at dksX9_divide_1 16 rfl rfl)
theorem dX9_divide_39 : decode cX9_divide 39 = .ok (.istore 7, 2) := dk_54 7 (dk_at dksX9_divide_1 17 rfl rfl)
theorem dX9_divide_41 : decode cX9_divide 41 = .ok (.iload 7, 2) := dk_21 7 (dk_at dksX9_divide_1 19 rfl rfl)
theorem dX9_divide_43 : decode cX9_divide 43 = .ok (.aload_n 1, 1) := dk_43 (dk_at dksX9_divide_1 21 rfl rfl)
theorem dX9_divide_44 : decode cX9_divide 44 = .ok (.getfield 26, 3) := dk_180 0 26 (dk_at dksX9_divide_2 0 rfl rfl)
theorem dX9_divide_47 : decode cX9_divide 47 = .ok (.if_icmp .gt 53, 3) := dk_163 0 53 (dk_at dksX9_divide_2 3 rfl rfl)
theorem dX9_divide_50 : decode cX9_divide 50 = .ok (.aload_n 0, 1) := dk_42 (dk_at dksX9_divide_2 6 rfl rfl)
theorem dX9_divide_51 : decode cX9_divide 51 = .ok (.getfield 22, 3) := dk_180 0 22 (dk_at dksX9_divide_2 7 rfl rfl)
theorem dX9_divide_54 : decode cX9_divide 54 = .ok (.iload 7, 2) := dk_21 7 (dk_at dksX9_divide_2 10 rfl rfl)
theorem dX9_divide_56 : decode cX9_divide 56 = .ok (.aload_n 1, 1) := dk_43 (dk_at dksX9_divide_2 12 rfl rfl)
theorem dX9_divide_57 : decode cX9_divide 57 = .ok (.iload 7, 2) := dk_21 7 (dk_at dksX9_divide_2 13 rfl rfl)
theorem dX9_divide_59 : decode cX9_divide 59 = .ok (.invokevirtual 57, 3) := dk_182 0 57 (dk_at dksX9_divide_2 15 rfl rfl)
theorem dX9_divide_62 : decode cX9_divide 62 = .ok (.iload 6, 2) := dk_21 6 (dk_at dksX9_divide_2 18 rfl rfl)
theorem dX9_divide_64 : decode cX9_divide 64 = .ok (.ishl, 1) := dk_120 (dk_at dksX9_divide_2 20 rfl rfl)
theorem dX9_divide_65 : decode cX9_divide 65 = .ok (.iload 7, 2) := dk_21 7 (dk_at dksX9_divide_2 21 rfl rfl)
theorem dX9_divide_67 : decode cX9_divide 67 = .ok (.ifCond .ne 7, 3) := dk_154 0 7 (dk_at dksX9_divide_3 0 rfl rfl)
theorem dX9_divide_70 : decode cX9_divide 70 = .ok (.iconst 0, 1) := dk_3 (dk_at dksX9_divide_3 3 rfl rfl)
theorem dX9_divide_71 : decode cX9_divide 71 = .ok (.goto 18, 3) := dk_167 0 18 (dk_at dksX9_divide_3 4 rfl rfl)
theorem dX9_divide_74 : decode cX9_divide 74 = .ok (.aload_n 1, 1) := dk_43 (dk_at dksX9_divide_3 7 rfl rfl)
theorem dX9_divide_75 : decode cX9_divide 75 = .ok (.getfield 30, 3) := dk_180 0 30 (dk_at dksX9_divide_3 8 rfl rfl)
theorem dX9_divide_78 : decode cX9_divide 78 = .ok (.iload 7, 2) := dk_21 7 (dk_at dksX9_divide_3 11 rfl rfl)
theorem dX9_divide_80 : decode cX9_divide 80 = .ok (.iconst 1, 1) := dk_4 (dk_at dksX9_divide_3 13 rfl rfl)
theorem dX9_divide_81 : decode cX9_divide 81 = .ok (.isub, 1) := dk_100 (dk_at dksX9_divide_3 14 rfl rfl)
theorem dX9_divide_82 : decode cX9_divide 82 = .ok (.iaload, 1) := dk_46 (dk_at dksX9_divide_3 15 rfl rfl)
theorem dX9_divide_83 : decode cX9_divide 83 = .ok (.bipush 16, 2) := dk_16 16 (dk_at dksX9_divide_3 16 rfl rfl)
theorem dX9_divide_85 : decode cX9_divide 85 = .ok (.iload 6, 2) := dk_21 6 (dk_at dksX9_divide_3 18 rfl rfl)
theorem dX9_divide_87 : decode cX9_divide 87 = .ok (.isub, 1) := dk_100 (dk_at dksX9_divide_3 20 rfl rfl)
theorem dX9_divide_88 : decode cX9_divide 88 = .ok (.ishr, 1) := dk_122 (dk_at dksX9_divide_3 21 rfl rfl)
theorem dX9_divide_89 : decode cX9_divide 89 = .ok (.ior, 1) := dk_128 (dk_at dksX9_divide_3 22 rfl rfl)
theorem dX9_divide_90 : decode cX9_divide 90 = .ok (.ldc 61, 2) := dk_18 61 (dk_at dksX9_divide_4 0 rfl rfl)
theorem dX9_divide_92 : decode cX9_divide 92 = .ok (.iand, 1) := dk_126 (dk_at dksX9_divide_4 2 rfl rfl)
theorem dX9_divide_93 : decode cX9_divide 93 = .ok (.iastore, 1) := dk_79 (dk_at dksX9_divide_4 3 rfl rfl)
theorem dX9_divide_94 : decode cX9_divide 94 = .ok (.iinc 7 1, 3) := dk_132 7 1 (dk_at dksX9_divide_4 4 rfl rfl)
theorem dX9_divide_97 : decode cX9_divide 97 = .ok (.goto (-56), 3) := dk_167 255 200 (dk_at dksX9_divide_4 7 rfl rfl)
theorem dX9_divide_100 : decode cX9_divide 100 = .ok (.iload 5, 2) := dk_21 5 (dk_at dksX9_divide_4 10 rfl rfl)
theorem dX9_divide_102 : decode cX9_divide 102 = .ok (.iconst 1, 1) := dk_4 (dk_at dksX9_divide_4 12 rfl rfl)
theorem dX9_divide_103 : decode cX9_divide 103 = .ok (.isub, 1) := dk_100 (dk_at dksX9_divide_4 13 rfl rfl)
theorem dX9_divide_104 : decode cX9_divide 104 = .ok (.istore 7, 2) := dk_54 7 (dk_at dksX9_divide_4 14 rfl rfl)
theorem dX9_divide_106 : decode cX9_divide 106 = .ok (.iload 7, 2) := dk_21 7 (dk_at dksX9_divide_4 16 rfl rfl)
theorem dX9_divide_108 : decode cX9_divide 108 = .ok (.ifCond .lt 25, 3) := dk_155 0 25 (dk_at dksX9_divide_4 18 rfl rfl)
theorem dX9_divide_111 : decode cX9_divide 111 = .ok (.aload_n 3, 1) := dk_45 (dk_at dksX9_divide_4 21 rfl rfl)
theorem dX9_divide_112 : decode cX9_divide 112 = .ok (.getfield 30, 3) := dk_180 0 30 (dk_at dksX9_divide_5 0 rfl rfl)
theorem dX9_divide_115 : decode cX9_divide 115 = .ok (.iload 7, 2) := dk_21 7 (dk_at dksX9_divide_5 3 rfl rfl)
theorem dX9_divide_117 : decode cX9_divide 117 = .ok (.aload_n 0, 1) := dk_42 (dk_at dksX9_divide_5 5 rfl rfl)
theorem dX9_divide_118 : decode cX9_divide 118 = .ok (.iload 7, 2) := dk_21 7 (dk_at dksX9_divide_5 6 rfl rfl)
theorem dX9_divide_120 : decode cX9_divide 120 = .ok (.aload_n 2, 1) := dk_44 (dk_at dksX9_divide_5 8 rfl rfl)
theorem dX9_divide_121 : decode cX9_divide 121 = .ok (.iload 6, 2) := dk_21 6 (dk_at dksX9_divide_5 9 rfl rfl)
theorem dX9_divide_123 : decode cX9_divide 123 = .ok (.invokevirtual 75, 3) := dk_182 0 75 (dk_at dksX9_divide_5 11 rfl rfl)
theorem dX9_divide_126 : decode cX9_divide 126 = .ok (.iastore, 1) := dk_79 (dk_at dksX9_divide_5 14 rfl rfl)
theorem dX9_divide_127 : decode cX9_divide 127 = .ok (.iinc 7 (-1), 3) := dk_132 7 255 (dk_at dksX9_divide_5 15 rfl rfl)
theorem dX9_divide_130 : decode cX9_divide 130 = .ok (.goto (-24), 3) := dk_167 255 232 (dk_at dksX9_divide_5 18 rfl rfl)
theorem dX9_divide_133 : decode cX9_divide 133 = .ok (.aload_n 3, 1) := dk_45 (dk_at dksX9_divide_5 21 rfl rfl)
theorem dX9_divide_134 : decode cX9_divide 134 = .ok (.iconst 0, 1) := dk_3 (dk_at dksX9_divide_5 22 rfl rfl)
theorem dX9_divide_135 : decode cX9_divide 135 = .ok (.putfield 35, 3) := dk_181 0 35 (dk_at dksX9_divide_6 0 rfl rfl)
theorem dX9_divide_138 : decode cX9_divide 138 = .ok (.aload_n 3, 1) := dk_45 (dk_at dksX9_divide_6 3 rfl rfl)
theorem dX9_divide_139 : decode cX9_divide 139 = .ok (.iload 5, 2) := dk_21 5 (dk_at dksX9_divide_6 4 rfl rfl)
theorem dX9_divide_141 : decode cX9_divide 141 = .ok (.invokevirtual 39, 3) := dk_182 0 39 (dk_at dksX9_divide_6 6 rfl rfl)
theorem dX9_divide_144 : decode cX9_divide 144 = .ok (.iload 4, 2) := dk_21 4 (dk_at dksX9_divide_6 9 rfl rfl)
theorem dX9_divide_146 : decode cX9_divide 146 = .ok (.aload_n 1, 1) := dk_43 (dk_at dksX9_divide_6 11 rfl rfl)
theorem dX9_divide_147 : decode cX9_divide 147 = .ok (.getfield 26, 3) := dk_180 0 26 (dk_at dksX9_divide_6 12 rfl rfl)
theorem dX9_divide_150 : decode cX9_divide 150 = .ok (.invokestatic 79, 3) := dk_184 0 79 (dk_at dksX9_divide_6 15 rfl rfl)
theorem dX9_divide_153 : decode cX9_divide 153 = .ok (.istore 7, 2) := dk_54 7 (dk_at dksX9_divide_6 18 rfl rfl)
theorem dX9_divide_155 : decode cX9_divide 155 = .ok (.iconst 0, 1) := dk_3 (dk_at dksX9_divide_6 20 rfl rfl)
theorem dX9_divide_156 : decode cX9_divide 156 = .ok (.istore 8, 2) := dk_54 8 (dk_at dksX9_divide_6 21 rfl rfl)
theorem dX9_divide_158 : decode cX9_divide 158 = .ok (.iload 8, 2) := dk_21 8 (dk_at dksX9_divide_7 0 rfl rfl)
theorem dX9_divide_160 : decode cX9_divide 160 = .ok (.iload 7, 2) := dk_21 7 (dk_at dksX9_divide_7 2 rfl rfl)
theorem dX9_divide_162 : decode cX9_divide 162 = .ok (.if_icmp .ge 42, 3) := dk_162 0 42 (dk_at dksX9_divide_7 4 rfl rfl)
theorem dX9_divide_165 : decode cX9_divide 165 = .ok (.aload_n 1, 1) := dk_43 (dk_at dksX9_divide_7 7 rfl rfl)
theorem dX9_divide_166 : decode cX9_divide 166 = .ok (.getfield 30, 3) := dk_180 0 30 (dk_at dksX9_divide_7 8 rfl rfl)
theorem dX9_divide_169 : decode cX9_divide 169 = .ok (.iload 8, 2) := dk_21 8 (dk_at dksX9_divide_7 11 rfl rfl)
theorem dX9_divide_171 : decode cX9_divide 171 = .ok (.aload_n 0, 1) := dk_42 (dk_at dksX9_divide_7 13 rfl rfl)
theorem dX9_divide_172 : decode cX9_divide 172 = .ok (.getfield 22, 3) := dk_180 0 22 (dk_at dksX9_divide_7 14 rfl rfl)
theorem dX9_divide_175 : decode cX9_divide 175 = .ok (.iload 8, 2) := dk_21 8 (dk_at dksX9_divide_7 17 rfl rfl)
theorem dX9_divide_177 : decode cX9_divide 177 = .ok (.iaload, 1) := dk_46 (dk_at dksX9_divide_7 19 rfl rfl)
theorem dX9_divide_178 : decode cX9_divide 178 = .ok (.aload_n 0, 1) := dk_42 (dk_at dksX9_divide_7 20 rfl rfl)
theorem dX9_divide_179 : decode cX9_divide 179 = .ok (.getfield 22, 3) := dk_180 0 22 (dk_at dksX9_divide_7 21 rfl rfl)
theorem dX9_divide_182 : decode cX9_divide 182 = .ok (.iload 8, 2) := dk_21 8 (dk_at dksX9_divide_8 0 rfl rfl)
theorem dX9_divide_184 : decode cX9_divide 184 = .ok (.iconst 1, 1) := dk_4 (dk_at dksX9_divide_8 2 rfl rfl)
theorem dX9_divide_185 : decode cX9_divide 185 = .ok (.iadd, 1) := dk_96 (dk_at dksX9_divide_8 3 rfl rfl)
theorem dX9_divide_186 : decode cX9_divide 186 = .ok (.iaload, 1) := dk_46 (dk_at dksX9_divide_8 4 rfl rfl)
theorem dX9_divide_187 : decode cX9_divide 187 = .ok (.bipush 16, 2) := dk_16 16 (dk_at dksX9_divide_8 5 rfl rfl)
theorem dX9_divide_189 : decode cX9_divide 189 = .ok (.ishl, 1) := dk_120 (dk_at dksX9_divide_8 7 rfl rfl)
theorem dX9_divide_190 : decode cX9_divide 190 = .ok (.ior, 1) := dk_128 (dk_at dksX9_divide_8 8 rfl rfl)
theorem dX9_divide_191 : decode cX9_divide 191 = .ok (.iload 6, 2) := dk_21 6 (dk_at dksX9_divide_8 9 rfl rfl)
theorem dX9_divide_193 : decode cX9_divide 193 = .ok (.iushr, 1) := dk_124 (dk_at dksX9_divide_8 11 rfl rfl)
theorem dX9_divide_194 : decode cX9_divide 194 = .ok (.ldc 61, 2) := dk_18 61 (dk_at dksX9_divide_8 12 rfl rfl)
theorem dX9_divide_196 : decode cX9_divide 196 = .ok (.iand, 1) := dk_126 (dk_at dksX9_divide_8 14 rfl rfl)
theorem dX9_divide_197 : decode cX9_divide 197 = .ok (.iastore, 1) := dk_79 (dk_at dksX9_divide_8 15 rfl rfl)
theorem dX9_divide_198 : decode cX9_divide 198 = .ok (.iinc 8 1, 3) := dk_132 8 1 (dk_at dksX9_divide_8 16 rfl rfl)
theorem dX9_divide_201 : decode cX9_divide 201 = .ok (.goto (-43), 3) := dk_167 255 213 (dk_at dksX9_divide_8 19 rfl rfl)
theorem dX9_divide_204 : decode cX9_divide 204 = .ok (.aload_n 1, 1) := dk_43 (dk_at dksX9_divide_8 22 rfl rfl)
theorem dX9_divide_205 : decode cX9_divide 205 = .ok (.iload 7, 2) := dk_21 7 (dk_at dksX9_divide_9 0 rfl rfl)
theorem dX9_divide_207 : decode cX9_divide 207 = .ok (.invokevirtual 39, 3) := dk_182 0 39 (dk_at dksX9_divide_9 2 rfl rfl)
theorem dX9_divide_210 : decode cX9_divide 210 = .ok (.return_, 1) := dk_177 (dk_at dksX9_divide_9 5 rfl rfl)
abbrev cX9_digit : ByteArray := prog_44_method_7_code
def yX9_digit : MethodName := ⟨RX9, "digit", "(ILWasteHouse$ShareSolve$Whole;I)I"⟩
def dkwX9_digit_11 : List UInt8 := [18, 61, 126, 79, 22, 10, 21, 12, 16, 16, 122, 133, 97, 55, 10, 167, 255, 142, 22, 8, 136, 172]
abbrev dktX9_digit_11 : List UInt8 := dkwX9_digit_11 ++ []
def dkwX9_digit_10 : List UInt8 := [21, 12, 42, 180, 0, 22, 27, 21, 4, 96, 46, 96, 54, 12, 42, 180, 0, 22, 27, 21, 4, 96, 21, 12]
abbrev dktX9_digit_10 : List UInt8 := dkwX9_digit_10 ++ dktX9_digit_11
def dkwX9_digit_9 : List UInt8 := [27, 21, 13, 96, 21, 12, 18, 61, 126, 79, 21, 12, 16, 16, 122, 54, 12, 132, 13, 1, 167, 255, 203]
abbrev dktX9_digit_9 : List UInt8 := dkwX9_digit_9 ++ dktX9_digit_10
def dkwX9_digit_8 : List UInt8 := [42, 180, 0, 22, 27, 21, 13, 96, 46, 44, 21, 13, 29, 184, 0, 82, 96, 96, 54, 12, 42, 180, 0, 22]
abbrev dktX9_digit_8 : List UInt8 := dkwX9_digit_8 ++ dktX9_digit_9
def dkwX9_digit_7 : List UInt8 := [156, 0, 113, 22, 8, 10, 101, 55, 8, 3, 54, 12, 3, 54, 13, 21, 13, 21, 4, 162, 0, 52, 21, 12]
abbrev dktX9_digit_7 : List UInt8 := dkwX9_digit_7 ++ dktX9_digit_8
def dkwX9_digit_6 : List UInt8 := [55, 10, 42, 180, 0, 22, 27, 21, 4, 96, 22, 10, 20, 0, 33, 127, 136, 79, 22, 10, 9, 148]
abbrev dktX9_digit_6 : List UInt8 := dkwX9_digit_6 ++ dktX9_digit_7
def dkwX9_digit_5 : List UInt8 := [16, 16, 123, 55, 10, 132, 12, 1, 167, 255, 196, 22, 10, 42, 180, 0, 22, 27, 21, 4, 96, 46, 133, 97]
abbrev dktX9_digit_5 : List UInt8 := dkwX9_digit_5 ++ dktX9_digit_6
def dkwX9_digit_4 : List UInt8 := [133, 105, 101, 97, 55, 10, 42, 180, 0, 22, 27, 21, 12, 96, 22, 10, 20, 0, 33, 127, 136, 79, 22, 10]
abbrev dktX9_digit_4 : List UInt8 := dkwX9_digit_4 ++ dktX9_digit_5
def dkwX9_digit_3 : List UInt8 := [162, 0, 59, 22, 10, 42, 180, 0, 22, 27, 21, 12, 96, 46, 133, 22, 8, 44, 21, 12, 29, 184, 0, 82]
abbrev dktX9_digit_3 : List UInt8 := dkwX9_digit_3 ++ dktX9_digit_4
def dkwX9_digit_2 : List UInt8 := [21, 5, 133, 109, 20, 0, 33, 184, 0, 86, 55, 8, 9, 55, 10, 3, 54, 12, 21, 12, 21, 4]
abbrev dktX9_digit_2 : List UInt8 := dkwX9_digit_2 ++ dktX9_digit_3
def dkwX9_digit_1 : List UInt8 := [96, 46, 133, 16, 16, 121, 42, 180, 0, 22, 27, 21, 4, 96, 4, 100, 46, 133, 129, 55, 6, 22, 6]
abbrev dktX9_digit_1 : List UInt8 := dkwX9_digit_1 ++ dktX9_digit_2
def dkwX9_digit_0 : List UInt8 := [44, 180, 0, 26, 54, 4, 44, 21, 4, 4, 100, 29, 184, 0, 82, 54, 5, 42, 180, 0, 22, 27, 21, 4]
abbrev dktX9_digit_0 : List UInt8 := dkwX9_digit_0 ++ dktX9_digit_1
theorem dksX9_digit_0 : cX9_digit.data.toList.drop 0 = dktX9_digit_0 := by decide +kernel
theorem dksX9_digit_1 : cX9_digit.data.toList.drop 24 = dktX9_digit_1 := dk_seg dksX9_digit_0 24 rfl rfl
theorem dksX9_digit_2 : cX9_digit.data.toList.drop 47 = dktX9_digit_2 := dk_seg dksX9_digit_1 23 rfl rfl
theorem dksX9_digit_3 : cX9_digit.data.toList.drop 69 = dktX9_digit_3 := dk_seg dksX9_digit_2 22 rfl rfl
theorem dksX9_digit_4 : cX9_digit.data.toList.drop 93 = dktX9_digit_4 := dk_seg dksX9_digit_3 24 rfl rfl
theorem dksX9_digit_5 : cX9_digit.data.toList.drop 117 = dktX9_digit_5 := dk_seg dksX9_digit_4 24 rfl rfl
theorem dksX9_digit_6 : cX9_digit.data.toList.drop 141 = dktX9_digit_6 := dk_seg dksX9_digit_5 24 rfl rfl
theorem dksX9_digit_7 : cX9_digit.data.toList.drop 163 = dktX9_digit_7 := dk_seg dksX9_digit_6 22 rfl rfl
theorem dksX9_digit_8 : cX9_digit.data.toList.drop 187 = dktX9_digit_8 := dk_seg dksX9_digit_7 24 rfl rfl
theorem dksX9_digit_9 : cX9_digit.data.toList.drop 211 = dktX9_digit_9 := dk_seg dksX9_digit_8 24 rfl rfl
theorem dksX9_digit_10 : cX9_digit.data.toList.drop 234 = dktX9_digit_10 := dk_seg dksX9_digit_9 23 rfl rfl
theorem dksX9_digit_11 : cX9_digit.data.toList.drop 258 = dktX9_digit_11 := dk_seg dksX9_digit_10 24 rfl rfl
theorem dX9_digit_0 : decode cX9_digit 0 = .ok (.aload_n 2, 1) := dk_44 (dk_at dksX9_digit_0 0 rfl rfl)
theorem dX9_digit_1 : decode cX9_digit 1 = .ok (.getfield 26, 3) := dk_180 0 26 (dk_at dksX9_digit_0 1 rfl rfl)
theorem dX9_digit_4 : decode cX9_digit 4 = .ok (.istore 4, 2) := dk_54 4 (dk_at dksX9_digit_0 4 rfl rfl)
theorem dX9_digit_6 : decode cX9_digit 6 = .ok (.aload_n 2, 1) := dk_44 (dk_at dksX9_digit_0 6 rfl rfl)
theorem dX9_digit_7 : decode cX9_digit 7 = .ok (.iload 4, 2) := dk_21 4 (dk_at dksX9_digit_0 7 rfl rfl)
theorem dX9_digit_9 : decode cX9_digit 9 = .ok (.iconst 1, 1) := dk_4 (dk_at dksX9_digit_0 9 rfl rfl)
theorem dX9_digit_10 : decode cX9_digit 10 = .ok (.isub, 1) := dk_100 (dk_at dksX9_digit_0 10 rfl rfl)
theorem dX9_digit_11 : decode cX9_digit 11 = .ok (.iload_n 3, 1) := dk_29 (dk_at dksX9_digit_0 11 rfl rfl)
theorem dX9_digit_12 : decode cX9_digit 12 = .ok (.invokestatic 82, 3) := dk_184 0 82 (dk_at dksX9_digit_0 12 rfl rfl)
theorem dX9_digit_15 : decode cX9_digit 15 = .ok (.istore 5, 2) := dk_54 5 (dk_at dksX9_digit_0 15 rfl rfl)
theorem dX9_digit_17 : decode cX9_digit 17 = .ok (.aload_n 0, 1) := dk_42 (dk_at dksX9_digit_0 17 rfl rfl)
theorem dX9_digit_18 : decode cX9_digit 18 = .ok (.getfield 22, 3) := dk_180 0 22 (dk_at dksX9_digit_0 18 rfl rfl)
theorem dX9_digit_21 : decode cX9_digit 21 = .ok (.iload_n 1, 1) := dk_27 (dk_at dksX9_digit_0 21 rfl rfl)
theorem dX9_digit_22 : decode cX9_digit 22 = .ok (.iload 4, 2) := dk_21 4 (dk_at dksX9_digit_0 22 rfl rfl)
theorem dX9_digit_24 : decode cX9_digit 24 = .ok (.iadd, 1) := dk_96 (dk_at dksX9_digit_1 0 rfl rfl)
theorem dX9_digit_25 : decode cX9_digit 25 = .ok (.iaload, 1) := dk_46 (dk_at dksX9_digit_1 1 rfl rfl)
theorem dX9_digit_26 : decode cX9_digit 26 = .ok (.i2l, 1) := dk_133 (dk_at dksX9_digit_1 2 rfl rfl)
theorem dX9_digit_27 : decode cX9_digit 27 = .ok (.bipush 16, 2) := dk_16 16 (dk_at dksX9_digit_1 3 rfl rfl)
theorem dX9_digit_29 : decode cX9_digit 29 = .ok (.lshl, 1) := dk_121 (dk_at dksX9_digit_1 5 rfl rfl)
theorem dX9_digit_30 : decode cX9_digit 30 = .ok (.aload_n 0, 1) := dk_42 (dk_at dksX9_digit_1 6 rfl rfl)
theorem dX9_digit_31 : decode cX9_digit 31 = .ok (.getfield 22, 3) := dk_180 0 22 (dk_at dksX9_digit_1 7 rfl rfl)
theorem dX9_digit_34 : decode cX9_digit 34 = .ok (.iload_n 1, 1) := dk_27 (dk_at dksX9_digit_1 10 rfl rfl)
theorem dX9_digit_35 : decode cX9_digit 35 = .ok (.iload 4, 2) := dk_21 4 (dk_at dksX9_digit_1 11 rfl rfl)
theorem dX9_digit_37 : decode cX9_digit 37 = .ok (.iadd, 1) := dk_96 (dk_at dksX9_digit_1 13 rfl rfl)
theorem dX9_digit_38 : decode cX9_digit 38 = .ok (.iconst 1, 1) := dk_4 (dk_at dksX9_digit_1 14 rfl rfl)
theorem dX9_digit_39 : decode cX9_digit 39 = .ok (.isub, 1) := dk_100 (dk_at dksX9_digit_1 15 rfl rfl)
theorem dX9_digit_40 : decode cX9_digit 40 = .ok (.iaload, 1) := dk_46 (dk_at dksX9_digit_1 16 rfl rfl)
theorem dX9_digit_41 : decode cX9_digit 41 = .ok (.i2l, 1) := dk_133 (dk_at dksX9_digit_1 17 rfl rfl)
theorem dX9_digit_42 : decode cX9_digit 42 = .ok (.lor, 1) := dk_129 (dk_at dksX9_digit_1 18 rfl rfl)
theorem dX9_digit_43 : decode cX9_digit 43 = .ok (.lstore 6, 2) := dk_55 6 (dk_at dksX9_digit_1 19 rfl rfl)
theorem dX9_digit_45 : decode cX9_digit 45 = .ok (.lload 6, 2) := dk_22 6 (dk_at dksX9_digit_1 21 rfl rfl)
theorem dX9_digit_47 : decode cX9_digit 47 = .ok (.iload 5, 2) := dk_21 5 (dk_at dksX9_digit_2 0 rfl rfl)
theorem dX9_digit_49 : decode cX9_digit 49 = .ok (.i2l, 1) := dk_133 (dk_at dksX9_digit_2 2 rfl rfl)
theorem dX9_digit_50 : decode cX9_digit 50 = .ok (.ldiv, 1) := dk_109 (dk_at dksX9_digit_2 3 rfl rfl)
theorem dX9_digit_51 : decode cX9_digit 51 = .ok (.ldc2_w 33, 3) := dk_20 0 33 (dk_at dksX9_digit_2 4 rfl rfl)
theorem dX9_digit_54 : decode cX9_digit 54 = .ok (.invokestatic 86, 3) := dk_184 0 86 (dk_at dksX9_digit_2 7 rfl rfl)
theorem dX9_digit_57 : decode cX9_digit 57 = .ok (.lstore 8, 2) := dk_55 8 (dk_at dksX9_digit_2 10 rfl rfl)
theorem dX9_digit_59 : decode cX9_digit 59 = .ok (.lconst 0, 1) := dk_9 (dk_at dksX9_digit_2 12 rfl rfl)
theorem dX9_digit_60 : decode cX9_digit 60 = .ok (.lstore 10, 2) := dk_55 10 (dk_at dksX9_digit_2 13 rfl rfl)
theorem dX9_digit_62 : decode cX9_digit 62 = .ok (.iconst 0, 1) := dk_3 (dk_at dksX9_digit_2 15 rfl rfl)
theorem dX9_digit_63 : decode cX9_digit 63 = .ok (.istore 12, 2) := dk_54 12 (dk_at dksX9_digit_2 16 rfl rfl)
theorem dX9_digit_65 : decode cX9_digit 65 = .ok (.iload 12, 2) := dk_21 12 (dk_at dksX9_digit_2 18 rfl rfl)
theorem dX9_digit_67 : decode cX9_digit 67 = .ok (.iload 4, 2) := dk_21 4 (dk_at dksX9_digit_2 20 rfl rfl)
theorem dX9_digit_69 : decode cX9_digit 69 = .ok (.if_icmp .ge 59, 3) := dk_162 0 59 (dk_at dksX9_digit_3 0 rfl rfl)
theorem dX9_digit_72 : decode cX9_digit 72 = .ok (.lload 10, 2) := dk_22 10 (dk_at dksX9_digit_3 3 rfl rfl)
theorem dX9_digit_74 : decode cX9_digit 74 = .ok (.aload_n 0, 1) := dk_42 (dk_at dksX9_digit_3 5 rfl rfl)
theorem dX9_digit_75 : decode cX9_digit 75 = .ok (.getfield 22, 3) := dk_180 0 22 (dk_at dksX9_digit_3 6 rfl rfl)
theorem dX9_digit_78 : decode cX9_digit 78 = .ok (.iload_n 1, 1) := dk_27 (dk_at dksX9_digit_3 9 rfl rfl)
theorem dX9_digit_79 : decode cX9_digit 79 = .ok (.iload 12, 2) := dk_21 12 (dk_at dksX9_digit_3 10 rfl rfl)
theorem dX9_digit_81 : decode cX9_digit 81 = .ok (.iadd, 1) := dk_96 (dk_at dksX9_digit_3 12 rfl rfl)
theorem dX9_digit_82 : decode cX9_digit 82 = .ok (.iaload, 1) := dk_46 (dk_at dksX9_digit_3 13 rfl rfl)
theorem dX9_digit_83 : decode cX9_digit 83 = .ok (.i2l, 1) := dk_133 (dk_at dksX9_digit_3 14 rfl rfl)
theorem dX9_digit_84 : decode cX9_digit 84 = .ok (.lload 8, 2) := dk_22 8 (dk_at dksX9_digit_3 15 rfl rfl)
theorem dX9_digit_86 : decode cX9_digit 86 = .ok (.aload_n 2, 1) := dk_44 (dk_at dksX9_digit_3 17 rfl rfl)
theorem dX9_digit_87 : decode cX9_digit 87 = .ok (.iload 12, 2) := dk_21 12 (dk_at dksX9_digit_3 18 rfl rfl)
theorem dX9_digit_89 : decode cX9_digit 89 = .ok (.iload_n 3, 1) := dk_29 (dk_at dksX9_digit_3 20 rfl rfl)
theorem dX9_digit_90 : decode cX9_digit 90 = .ok (.invokestatic 82, 3) := dk_184 0 82 (dk_at dksX9_digit_3 21 rfl rfl)
theorem dX9_digit_93 : decode cX9_digit 93 = .ok (.i2l, 1) := dk_133 (dk_at dksX9_digit_4 0 rfl rfl)
theorem dX9_digit_94 : decode cX9_digit 94 = .ok (.lmul, 1) := dk_105 (dk_at dksX9_digit_4 1 rfl rfl)
theorem dX9_digit_95 : decode cX9_digit 95 = .ok (.lsub, 1) := dk_101 (dk_at dksX9_digit_4 2 rfl rfl)
theorem dX9_digit_96 : decode cX9_digit 96 = .ok (.ladd, 1) := dk_97 (dk_at dksX9_digit_4 3 rfl rfl)
theorem dX9_digit_97 : decode cX9_digit 97 = .ok (.lstore 10, 2) := dk_55 10 (dk_at dksX9_digit_4 4 rfl rfl)
theorem dX9_digit_99 : decode cX9_digit 99 = .ok (.aload_n 0, 1) := dk_42 (dk_at dksX9_digit_4 6 rfl rfl)
theorem dX9_digit_100 : decode cX9_digit 100 = .ok (.getfield 22, 3) := dk_180 0 22 (dk_at dksX9_digit_4 7 rfl rfl)
theorem dX9_digit_103 : decode cX9_digit 103 = .ok (.iload_n 1, 1) := dk_27 (dk_at dksX9_digit_4 10 rfl rfl)
theorem dX9_digit_104 : decode cX9_digit 104 = .ok (.iload 12, 2) := dk_21 12 (dk_at dksX9_digit_4 11 rfl rfl)
theorem dX9_digit_106 : decode cX9_digit 106 = .ok (.iadd, 1) := dk_96 (dk_at dksX9_digit_4 13 rfl rfl)
theorem dX9_digit_107 : decode cX9_digit 107 = .ok (.lload 10, 2) := dk_22 10 (dk_at dksX9_digit_4 14 rfl rfl)
theorem dX9_digit_109 : decode cX9_digit 109 = .ok (.ldc2_w 33, 3) := dk_20 0 33 (dk_at dksX9_digit_4 16 rfl rfl)
theorem dX9_digit_112 : decode cX9_digit 112 = .ok (.land, 1) := dk_127 (dk_at dksX9_digit_4 19 rfl rfl)
theorem dX9_digit_113 : decode cX9_digit 113 = .ok (.l2i, 1) := dk_136 (dk_at dksX9_digit_4 20 rfl rfl)
theorem dX9_digit_114 : decode cX9_digit 114 = .ok (.iastore, 1) := dk_79 (dk_at dksX9_digit_4 21 rfl rfl)
theorem dX9_digit_115 : decode cX9_digit 115 = .ok (.lload 10, 2) := dk_22 10 (dk_at dksX9_digit_4 22 rfl rfl)
theorem dX9_digit_117 : decode cX9_digit 117 = .ok (.bipush 16, 2) := dk_16 16 (dk_at dksX9_digit_5 0 rfl rfl)
theorem dX9_digit_119 : decode cX9_digit 119 = .ok (.lshr, 1) := dk_123 (dk_at dksX9_digit_5 2 rfl rfl)
theorem dX9_digit_120 : decode cX9_digit 120 = .ok (.lstore 10, 2) := dk_55 10 (dk_at dksX9_digit_5 3 rfl rfl)
theorem dX9_digit_122 : decode cX9_digit 122 = .ok (.iinc 12 1, 3) := dk_132 12 1 (dk_at dksX9_digit_5 5 rfl rfl)
theorem dX9_digit_125 : decode cX9_digit 125 = .ok (.goto (-60), 3) := dk_167 255 196 (dk_at dksX9_digit_5 8 rfl rfl)
theorem dX9_digit_128 : decode cX9_digit 128 = .ok (.lload 10, 2) := dk_22 10 (dk_at dksX9_digit_5 11 rfl rfl)
theorem dX9_digit_130 : decode cX9_digit 130 = .ok (.aload_n 0, 1) := dk_42 (dk_at dksX9_digit_5 13 rfl rfl)
theorem dX9_digit_131 : decode cX9_digit 131 = .ok (.getfield 22, 3) := dk_180 0 22 (dk_at dksX9_digit_5 14 rfl rfl)
theorem dX9_digit_134 : decode cX9_digit 134 = .ok (.iload_n 1, 1) := dk_27 (dk_at dksX9_digit_5 17 rfl rfl)
theorem dX9_digit_135 : decode cX9_digit 135 = .ok (.iload 4, 2) := dk_21 4 (dk_at dksX9_digit_5 18 rfl rfl)
theorem dX9_digit_137 : decode cX9_digit 137 = .ok (.iadd, 1) := dk_96 (dk_at dksX9_digit_5 20 rfl rfl)
theorem dX9_digit_138 : decode cX9_digit 138 = .ok (.iaload, 1) := dk_46 (dk_at dksX9_digit_5 21 rfl rfl)
theorem dX9_digit_139 : decode cX9_digit 139 = .ok (.i2l, 1) := dk_133 (dk_at dksX9_digit_5 22 rfl rfl)
theorem dX9_digit_140 : decode cX9_digit 140 = .ok (.ladd, 1) := dk_97 (dk_at dksX9_digit_5 23 rfl rfl)
theorem dX9_digit_141 : decode cX9_digit 141 = .ok (.lstore 10, 2) := dk_55 10 (dk_at dksX9_digit_6 0 rfl rfl)
theorem dX9_digit_143 : decode cX9_digit 143 = .ok (.aload_n 0, 1) := dk_42 (dk_at dksX9_digit_6 2 rfl rfl)
theorem dX9_digit_144 : decode cX9_digit 144 = .ok (.getfield 22, 3) := dk_180 0 22 (dk_at dksX9_digit_6 3 rfl rfl)
theorem dX9_digit_147 : decode cX9_digit 147 = .ok (.iload_n 1, 1) := dk_27 (dk_at dksX9_digit_6 6 rfl rfl)
theorem dX9_digit_148 : decode cX9_digit 148 = .ok (.iload 4, 2) := dk_21 4 (dk_at dksX9_digit_6 7 rfl rfl)
theorem dX9_digit_150 : decode cX9_digit 150 = .ok (.iadd, 1) := dk_96 (dk_at dksX9_digit_6 9 rfl rfl)
theorem dX9_digit_151 : decode cX9_digit 151 = .ok (.lload 10, 2) := dk_22 10 (dk_at dksX9_digit_6 10 rfl rfl)
theorem dX9_digit_153 : decode cX9_digit 153 = .ok (.ldc2_w 33, 3) := dk_20 0 33 (dk_at dksX9_digit_6 12 rfl rfl)
theorem dX9_digit_156 : decode cX9_digit 156 = .ok (.land, 1) := dk_127 (dk_at dksX9_digit_6 15 rfl rfl)
theorem dX9_digit_157 : decode cX9_digit 157 = .ok (.l2i, 1) := dk_136 (dk_at dksX9_digit_6 16 rfl rfl)
theorem dX9_digit_158 : decode cX9_digit 158 = .ok (.iastore, 1) := dk_79 (dk_at dksX9_digit_6 17 rfl rfl)
theorem dX9_digit_159 : decode cX9_digit 159 = .ok (.lload 10, 2) := dk_22 10 (dk_at dksX9_digit_6 18 rfl rfl)
theorem dX9_digit_161 : decode cX9_digit 161 = .ok (.lconst 0, 1) := dk_9 (dk_at dksX9_digit_6 20 rfl rfl)
theorem dX9_digit_162 : decode cX9_digit 162 = .ok (.lcmp, 1) := dk_148 (dk_at dksX9_digit_6 21 rfl rfl)
theorem dX9_digit_163 : decode cX9_digit 163 = .ok (.ifCond .ge 113, 3) := dk_156 0 113 (dk_at dksX9_digit_7 0 rfl rfl)
theorem dX9_digit_166 : decode cX9_digit 166 = .ok (.lload 8, 2) := dk_22 8 (dk_at dksX9_digit_7 3 rfl rfl)
theorem dX9_digit_168 : decode cX9_digit 168 = .ok (.lconst 1, 1) := dk_10 (dk_at dksX9_digit_7 5 rfl rfl)
theorem dX9_digit_169 : decode cX9_digit 169 = .ok (.lsub, 1) := dk_101 (dk_at dksX9_digit_7 6 rfl rfl)
theorem dX9_digit_170 : decode cX9_digit 170 = .ok (.lstore 8, 2) := dk_55 8 (dk_at dksX9_digit_7 7 rfl rfl)
theorem dX9_digit_172 : decode cX9_digit 172 = .ok (.iconst 0, 1) := dk_3 (dk_at dksX9_digit_7 9 rfl rfl)
theorem dX9_digit_173 : decode cX9_digit 173 = .ok (.istore 12, 2) := dk_54 12 (dk_at dksX9_digit_7 10 rfl rfl)
theorem dX9_digit_175 : decode cX9_digit 175 = .ok (.iconst 0, 1) := dk_3 (dk_at dksX9_digit_7 12 rfl rfl)
theorem dX9_digit_176 : decode cX9_digit 176 = .ok (.istore 13, 2) := dk_54 13 (dk_at dksX9_digit_7 13 rfl rfl)
theorem dX9_digit_178 : decode cX9_digit 178 = .ok (.iload 13, 2) := dk_21 13 (dk_at dksX9_digit_7 15 rfl rfl)
theorem dX9_digit_180 : decode cX9_digit 180 = .ok (.iload 4, 2) := dk_21 4 (dk_at dksX9_digit_7 17 rfl rfl)
theorem dX9_digit_182 : decode cX9_digit 182 = .ok (.if_icmp .ge 52, 3) := dk_162 0 52 (dk_at dksX9_digit_7 19 rfl rfl)
theorem dX9_digit_185 : decode cX9_digit 185 = .ok (.iload 12, 2) := dk_21 12 (dk_at dksX9_digit_7 22 rfl rfl)
theorem dX9_digit_187 : decode cX9_digit 187 = .ok (.aload_n 0, 1) := dk_42 (dk_at dksX9_digit_8 0 rfl rfl)
theorem dX9_digit_188 : decode cX9_digit 188 = .ok (.getfield 22, 3) := dk_180 0 22 (dk_at dksX9_digit_8 1 rfl rfl)
theorem dX9_digit_191 : decode cX9_digit 191 = .ok (.iload_n 1, 1) := dk_27 (dk_at dksX9_digit_8 4 rfl rfl)
theorem dX9_digit_192 : decode cX9_digit 192 = .ok (.iload 13, 2) := dk_21 13 (dk_at dksX9_digit_8 5 rfl rfl)
theorem dX9_digit_194 : decode cX9_digit 194 = .ok (.iadd, 1) := dk_96 (dk_at dksX9_digit_8 7 rfl rfl)
theorem dX9_digit_195 : decode cX9_digit 195 = .ok (.iaload, 1) := dk_46 (dk_at dksX9_digit_8 8 rfl rfl)
theorem dX9_digit_196 : decode cX9_digit 196 = .ok (.aload_n 2, 1) := dk_44 (dk_at dksX9_digit_8 9 rfl rfl)
theorem dX9_digit_197 : decode cX9_digit 197 = .ok (.iload 13, 2) := dk_21 13 (dk_at dksX9_digit_8 10 rfl rfl)
theorem dX9_digit_199 : decode cX9_digit 199 = .ok (.iload_n 3, 1) := dk_29 (dk_at dksX9_digit_8 12 rfl rfl)
theorem dX9_digit_200 : decode cX9_digit 200 = .ok (.invokestatic 82, 3) := dk_184 0 82 (dk_at dksX9_digit_8 13 rfl rfl)
theorem dX9_digit_203 : decode cX9_digit 203 = .ok (.iadd, 1) := dk_96 (dk_at dksX9_digit_8 16 rfl rfl)
theorem dX9_digit_204 : decode cX9_digit 204 = .ok (.iadd, 1) := dk_96 (dk_at dksX9_digit_8 17 rfl rfl)
theorem dX9_digit_205 : decode cX9_digit 205 = .ok (.istore 12, 2) := dk_54 12 (dk_at dksX9_digit_8 18 rfl rfl)
theorem dX9_digit_207 : decode cX9_digit 207 = .ok (.aload_n 0, 1) := dk_42 (dk_at dksX9_digit_8 20 rfl rfl)
theorem dX9_digit_208 : decode cX9_digit 208 = .ok (.getfield 22, 3) := dk_180 0 22 (dk_at dksX9_digit_8 21 rfl rfl)
theorem dX9_digit_211 : decode cX9_digit 211 = .ok (.iload_n 1, 1) := dk_27 (dk_at dksX9_digit_9 0 rfl rfl)
theorem dX9_digit_212 : decode cX9_digit 212 = .ok (.iload 13, 2) := dk_21 13 (dk_at dksX9_digit_9 1 rfl rfl)
theorem dX9_digit_214 : decode cX9_digit 214 = .ok (.iadd, 1) := dk_96 (dk_at dksX9_digit_9 3 rfl rfl)
theorem dX9_digit_215 : decode cX9_digit 215 = .ok (.iload 12, 2) := dk_21 12 (dk_at dksX9_digit_9 4 rfl rfl)
theorem dX9_digit_217 : decode cX9_digit 217 = .ok (.ldc 61, 2) := dk_18 61 (dk_at dksX9_digit_9 6 rfl rfl)
theorem dX9_digit_219 : decode cX9_digit 219 = .ok (.iand, 1) := dk_126 (dk_at dksX9_digit_9 8 rfl rfl)
theorem dX9_digit_220 : decode cX9_digit 220 = .ok (.iastore, 1) := dk_79 (dk_at dksX9_digit_9 9 rfl rfl)
theorem dX9_digit_221 : decode cX9_digit 221 = .ok (.iload 12, 2) := dk_21 12 (dk_at dksX9_digit_9 10 rfl rfl)
theorem dX9_digit_223 : decode cX9_digit 223 = .ok (.bipush 16, 2) := dk_16 16 (dk_at dksX9_digit_9 12 rfl rfl)
theorem dX9_digit_225 : decode cX9_digit 225 = .ok (.ishr, 1) := dk_122 (dk_at dksX9_digit_9 14 rfl rfl)
theorem dX9_digit_226 : decode cX9_digit 226 = .ok (.istore 12, 2) := dk_54 12 (dk_at dksX9_digit_9 15 rfl rfl)
theorem dX9_digit_228 : decode cX9_digit 228 = .ok (.iinc 13 1, 3) := dk_132 13 1 (dk_at dksX9_digit_9 17 rfl rfl)
theorem dX9_digit_231 : decode cX9_digit 231 = .ok (.goto (-53), 3) := dk_167 255 203 (dk_at dksX9_digit_9 20 rfl rfl)
theorem dX9_digit_234 : decode cX9_digit 234 = .ok (.iload 12, 2) := dk_21 12 (dk_at dksX9_digit_10 0 rfl rfl)
theorem dX9_digit_236 : decode cX9_digit 236 = .ok (.aload_n 0, 1) := dk_42 (dk_at dksX9_digit_10 2 rfl rfl)
theorem dX9_digit_237 : decode cX9_digit 237 = .ok (.getfield 22, 3) := dk_180 0 22 (dk_at dksX9_digit_10 3 rfl rfl)
theorem dX9_digit_240 : decode cX9_digit 240 = .ok (.iload_n 1, 1) := dk_27 (dk_at dksX9_digit_10 6 rfl rfl)
theorem dX9_digit_241 : decode cX9_digit 241 = .ok (.iload 4, 2) := dk_21 4 (dk_at dksX9_digit_10 7 rfl rfl)
theorem dX9_digit_243 : decode cX9_digit 243 = .ok (.iadd, 1) := dk_96 (dk_at dksX9_digit_10 9 rfl rfl)
theorem dX9_digit_244 : decode cX9_digit 244 = .ok (.iaload, 1) := dk_46 (dk_at dksX9_digit_10 10 rfl rfl)
theorem dX9_digit_245 : decode cX9_digit 245 = .ok (.iadd, 1) := dk_96 (dk_at dksX9_digit_10 11 rfl rfl)
theorem dX9_digit_246 : decode cX9_digit 246 = .ok (.istore 12, 2) := dk_54 12 (dk_at dksX9_digit_10 12 rfl rfl)
theorem dX9_digit_248 : decode cX9_digit 248 = .ok (.aload_n 0, 1) := dk_42 (dk_at dksX9_digit_10 14 rfl rfl)
theorem dX9_digit_249 : decode cX9_digit 249 = .ok (.getfield 22, 3) := dk_180 0 22 (dk_at dksX9_digit_10 15 rfl rfl)
theorem dX9_digit_252 : decode cX9_digit 252 = .ok (.iload_n 1, 1) := dk_27 (dk_at dksX9_digit_10 18 rfl rfl)
theorem dX9_digit_253 : decode cX9_digit 253 = .ok (.iload 4, 2) := dk_21 4 (dk_at dksX9_digit_10 19 rfl rfl)
theorem dX9_digit_255 : decode cX9_digit 255 = .ok (.iadd, 1) := dk_96 (dk_at dksX9_digit_10 21 rfl rfl)
theorem dX9_digit_256 : decode cX9_digit 256 = .ok (.iload 12, 2) := dk_21 12 (dk_at dksX9_digit_10 22 rfl rfl)
theorem dX9_digit_258 : decode cX9_digit 258 = .ok (.ldc 61, 2) := dk_18 61 (dk_at dksX9_digit_11 0 rfl rfl)
theorem dX9_digit_260 : decode cX9_digit 260 = .ok (.iand, 1) := dk_126 (dk_at dksX9_digit_11 2 rfl rfl)
theorem dX9_digit_261 : decode cX9_digit 261 = .ok (.iastore, 1) := dk_79 (dk_at dksX9_digit_11 3 rfl rfl)
theorem dX9_digit_262 : decode cX9_digit 262 = .ok (.lload 10, 2) := dk_22 10 (dk_at dksX9_digit_11 4 rfl rfl)
theorem dX9_digit_264 : decode cX9_digit 264 = .ok (.iload 12, 2) := dk_21 12 (dk_at dksX9_digit_11 6 rfl rfl)
theorem dX9_digit_266 : decode cX9_digit 266 = .ok (.bipush 16, 2) := dk_16 16 (dk_at dksX9_digit_11 8 rfl rfl)
theorem dX9_digit_268 : decode cX9_digit 268 = .ok (.ishr, 1) := dk_122 (dk_at dksX9_digit_11 10 rfl rfl)
theorem dX9_digit_269 : decode cX9_digit 269 = .ok (.i2l, 1) := dk_133 (dk_at dksX9_digit_11 11 rfl rfl)
theorem dX9_digit_270 : decode cX9_digit 270 = .ok (.ladd, 1) := dk_97 (dk_at dksX9_digit_11 12 rfl rfl)
theorem dX9_digit_271 : decode cX9_digit 271 = .ok (.lstore 10, 2) := dk_55 10 (dk_at dksX9_digit_11 13 rfl rfl)
theorem dX9_digit_273 : decode cX9_digit 273 = .ok (.goto (-114), 3) := dk_167 255 142 (dk_at dksX9_digit_11 15 rfl rfl)
theorem dX9_digit_276 : decode cX9_digit 276 = .ok (.lload 8, 2) := dk_22 8 (dk_at dksX9_digit_11 18 rfl rfl)
theorem dX9_digit_278 : decode cX9_digit 278 = .ok (.l2i, 1) := dk_136 (dk_at dksX9_digit_11 20 rfl rfl)
theorem dX9_digit_279 : decode cX9_digit 279 = .ok (.ireturn, 1) := dk_172 (dk_at dksX9_digit_11 21 rfl rfl)
abbrev cX9_shifted : ByteArray := prog_44_method_6_code
def yX9_shifted : MethodName := ⟨RX9, "shifted", "(LWasteHouse$ShareSolve$Whole;II)I"⟩
def dkwX9_shifted_1 : List UInt8 := [28, 100, 122, 128, 18, 61, 126, 172]
abbrev dktX9_shifted_1 : List UInt8 := dkwX9_shifted_1 ++ []
def dkwX9_shifted_0 : List UInt8 := [42, 27, 182, 0, 57, 28, 120, 27, 154, 0, 7, 3, 167, 0, 15, 42, 27, 4, 100, 182, 0, 57, 16, 16]
abbrev dktX9_shifted_0 : List UInt8 := dkwX9_shifted_0 ++ dktX9_shifted_1
theorem dksX9_shifted_0 : cX9_shifted.data.toList.drop 0 = dktX9_shifted_0 := by decide +kernel
theorem dksX9_shifted_1 : cX9_shifted.data.toList.drop 24 = dktX9_shifted_1 := dk_seg dksX9_shifted_0 24 rfl rfl
theorem dX9_shifted_0 : decode cX9_shifted 0 = .ok (.aload_n 0, 1) := dk_42 (dk_at dksX9_shifted_0 0 rfl rfl)
theorem dX9_shifted_1 : decode cX9_shifted 1 = .ok (.iload_n 1, 1) := dk_27 (dk_at dksX9_shifted_0 1 rfl rfl)
theorem dX9_shifted_2 : decode cX9_shifted 2 = .ok (.invokevirtual 57, 3) := dk_182 0 57 (dk_at dksX9_shifted_0 2 rfl rfl)
theorem dX9_shifted_5 : decode cX9_shifted 5 = .ok (.iload_n 2, 1) := dk_28 (dk_at dksX9_shifted_0 5 rfl rfl)
theorem dX9_shifted_6 : decode cX9_shifted 6 = .ok (.ishl, 1) := dk_120 (dk_at dksX9_shifted_0 6 rfl rfl)
theorem dX9_shifted_7 : decode cX9_shifted 7 = .ok (.iload_n 1, 1) := dk_27 (dk_at dksX9_shifted_0 7 rfl rfl)
theorem dX9_shifted_8 : decode cX9_shifted 8 = .ok (.ifCond .ne 7, 3) := dk_154 0 7 (dk_at dksX9_shifted_0 8 rfl rfl)
theorem dX9_shifted_11 : decode cX9_shifted 11 = .ok (.iconst 0, 1) := dk_3 (dk_at dksX9_shifted_0 11 rfl rfl)
theorem dX9_shifted_12 : decode cX9_shifted 12 = .ok (.goto 15, 3) := dk_167 0 15 (dk_at dksX9_shifted_0 12 rfl rfl)
theorem dX9_shifted_15 : decode cX9_shifted 15 = .ok (.aload_n 0, 1) := dk_42 (dk_at dksX9_shifted_0 15 rfl rfl)
theorem dX9_shifted_16 : decode cX9_shifted 16 = .ok (.iload_n 1, 1) := dk_27 (dk_at dksX9_shifted_0 16 rfl rfl)
theorem dX9_shifted_17 : decode cX9_shifted 17 = .ok (.iconst 1, 1) := dk_4 (dk_at dksX9_shifted_0 17 rfl rfl)
theorem dX9_shifted_18 : decode cX9_shifted 18 = .ok (.isub, 1) := dk_100 (dk_at dksX9_shifted_0 18 rfl rfl)
theorem dX9_shifted_19 : decode cX9_shifted 19 = .ok (.invokevirtual 57, 3) := dk_182 0 57 (dk_at dksX9_shifted_0 19 rfl rfl)
theorem dX9_shifted_22 : decode cX9_shifted 22 = .ok (.bipush 16, 2) := dk_16 16 (dk_at dksX9_shifted_0 22 rfl rfl)
theorem dX9_shifted_24 : decode cX9_shifted 24 = .ok (.iload_n 2, 1) := dk_28 (dk_at dksX9_shifted_1 0 rfl rfl)
theorem dX9_shifted_25 : decode cX9_shifted 25 = .ok (.isub, 1) := dk_100 (dk_at dksX9_shifted_1 1 rfl rfl)
theorem dX9_shifted_26 : decode cX9_shifted 26 = .ok (.ishr, 1) := dk_122 (dk_at dksX9_shifted_1 2 rfl rfl)
theorem dX9_shifted_27 : decode cX9_shifted 27 = .ok (.ior, 1) := dk_128 (dk_at dksX9_shifted_1 3 rfl rfl)
theorem dX9_shifted_28 : decode cX9_shifted 28 = .ok (.ldc 61, 2) := dk_18 61 (dk_at dksX9_shifted_1 4 rfl rfl)
theorem dX9_shifted_30 : decode cX9_shifted 30 = .ok (.iand, 1) := dk_126 (dk_at dksX9_shifted_1 6 rfl rfl)
theorem dX9_shifted_31 : decode cX9_shifted 31 = .ok (.ireturn, 1) := dk_172 (dk_at dksX9_shifted_1 7 rfl rfl)
abbrev cX9_gcd : ByteArray := prog_44_method_8_code
def yX9_gcd : MethodName := ⟨RX9, "gcd", "(LWasteHouse$ShareSolve$Whole;LWasteHouse$ShareSolve$Whole;)V"⟩
def dkwX9_gcd_2 : List UInt8 := [45, 43, 165, 0, 8, 43, 45, 182, 0, 89, 43, 3, 181, 0, 35, 177]
abbrev dktX9_gcd_2 : List UInt8 := dkwX9_gcd_2 ++ []
def dkwX9_gcd_1 : List UInt8 := [42, 45, 25, 4, 42, 180, 0, 16, 182, 0, 93, 45, 58, 5, 25, 4, 78, 25, 5, 58, 4, 167, 255, 227]
abbrev dktX9_gcd_1 : List UInt8 := dkwX9_gcd_1 ++ dktX9_gcd_2
def dkwX9_gcd_0 : List UInt8 := [42, 180, 0, 19, 44, 182, 0, 89, 43, 78, 42, 180, 0, 19, 58, 4, 25, 4, 182, 0, 43, 154, 0, 27]
abbrev dktX9_gcd_0 : List UInt8 := dkwX9_gcd_0 ++ dktX9_gcd_1
theorem dksX9_gcd_0 : cX9_gcd.data.toList.drop 0 = dktX9_gcd_0 := by decide +kernel
theorem dksX9_gcd_1 : cX9_gcd.data.toList.drop 24 = dktX9_gcd_1 := dk_seg dksX9_gcd_0 24 rfl rfl
theorem dksX9_gcd_2 : cX9_gcd.data.toList.drop 48 = dktX9_gcd_2 := dk_seg dksX9_gcd_1 24 rfl rfl
theorem dX9_gcd_0 : decode cX9_gcd 0 = .ok (.aload_n 0, 1) := dk_42 (dk_at dksX9_gcd_0 0 rfl rfl)
theorem dX9_gcd_1 : decode cX9_gcd 1 = .ok (.getfield 19, 3) := dk_180 0 19 (dk_at dksX9_gcd_0 1 rfl rfl)
theorem dX9_gcd_4 : decode cX9_gcd 4 = .ok (.aload_n 2, 1) := dk_44 (dk_at dksX9_gcd_0 4 rfl rfl)
theorem dX9_gcd_5 : decode cX9_gcd 5 = .ok (.invokevirtual 89, 3) := dk_182 0 89 (dk_at dksX9_gcd_0 5 rfl rfl)
theorem dX9_gcd_8 : decode cX9_gcd 8 = .ok (.aload_n 1, 1) := dk_43 (dk_at dksX9_gcd_0 8 rfl rfl)
theorem dX9_gcd_9 : decode cX9_gcd 9 = .ok (.astore_n 3, 1) := dk_78 (dk_at dksX9_gcd_0 9 rfl rfl)
theorem dX9_gcd_10 : decode cX9_gcd 10 = .ok (.aload_n 0, 1) := dk_42 (dk_at dksX9_gcd_0 10 rfl rfl)
theorem dX9_gcd_11 : decode cX9_gcd 11 = .ok (.getfield 19, 3) := dk_180 0 19 (dk_at dksX9_gcd_0 11 rfl rfl)
theorem dX9_gcd_14 : decode cX9_gcd 14 = .ok (.astore 4, 2) := dk_58 4 (dk_at dksX9_gcd_0 14 rfl rfl)
theorem dX9_gcd_16 : decode cX9_gcd 16 = .ok (.aload 4, 2) := dk_25 4 (dk_at dksX9_gcd_0 16 rfl rfl)
theorem dX9_gcd_18 : decode cX9_gcd 18 = .ok (.invokevirtual 43, 3) := dk_182 0 43 (dk_at dksX9_gcd_0 18 rfl rfl)
theorem dX9_gcd_21 : decode cX9_gcd 21 = .ok (.ifCond .ne 27, 3) := dk_154 0 27 (dk_at dksX9_gcd_0 21 rfl rfl)
theorem dX9_gcd_24 : decode cX9_gcd 24 = .ok (.aload_n 0, 1) := dk_42 (dk_at dksX9_gcd_1 0 rfl rfl)
theorem dX9_gcd_25 : decode cX9_gcd 25 = .ok (.aload_n 3, 1) := dk_45 (dk_at dksX9_gcd_1 1 rfl rfl)
theorem dX9_gcd_26 : decode cX9_gcd 26 = .ok (.aload 4, 2) := dk_25 4 (dk_at dksX9_gcd_1 2 rfl rfl)
theorem dX9_gcd_28 : decode cX9_gcd 28 = .ok (.aload_n 0, 1) := dk_42 (dk_at dksX9_gcd_1 4 rfl rfl)
theorem dX9_gcd_29 : decode cX9_gcd 29 = .ok (.getfield 16, 3) := dk_180 0 16 (dk_at dksX9_gcd_1 5 rfl rfl)
theorem dX9_gcd_32 : decode cX9_gcd 32 = .ok (.invokevirtual 93, 3) := dk_182 0 93 (dk_at dksX9_gcd_1 8 rfl rfl)
theorem dX9_gcd_35 : decode cX9_gcd 35 = .ok (.aload_n 3, 1) := dk_45 (dk_at dksX9_gcd_1 11 rfl rfl)
theorem dX9_gcd_36 : decode cX9_gcd 36 = .ok (.astore 5, 2) := dk_58 5 (dk_at dksX9_gcd_1 12 rfl rfl)
theorem dX9_gcd_38 : decode cX9_gcd 38 = .ok (.aload 4, 2) := dk_25 4 (dk_at dksX9_gcd_1 14 rfl rfl)
theorem dX9_gcd_40 : decode cX9_gcd 40 = .ok (.astore_n 3, 1) := dk_78 (dk_at dksX9_gcd_1 16 rfl rfl)
theorem dX9_gcd_41 : decode cX9_gcd 41 = .ok (.aload 5, 2) := dk_25 5 (dk_at dksX9_gcd_1 17 rfl rfl)
theorem dX9_gcd_43 : decode cX9_gcd 43 = .ok (.astore 4, 2) := dk_58 4 (dk_at dksX9_gcd_1 19 rfl rfl)
theorem dX9_gcd_45 : decode cX9_gcd 45 = .ok (.goto (-29), 3) := dk_167 255 227 (dk_at dksX9_gcd_1 21 rfl rfl)
theorem dX9_gcd_48 : decode cX9_gcd 48 = .ok (.aload_n 3, 1) := dk_45 (dk_at dksX9_gcd_2 0 rfl rfl)
theorem dX9_gcd_49 : decode cX9_gcd 49 = .ok (.aload_n 1, 1) := dk_43 (dk_at dksX9_gcd_2 1 rfl rfl)
theorem dX9_gcd_50 : decode cX9_gcd 50 = .ok (.if_acmp .eq 8, 3) := dk_165 0 8 (dk_at dksX9_gcd_2 2 rfl rfl)
theorem dX9_gcd_53 : decode cX9_gcd 53 = .ok (.aload_n 1, 1) := dk_43 (dk_at dksX9_gcd_2 5 rfl rfl)
theorem dX9_gcd_54 : decode cX9_gcd 54 = .ok (.aload_n 3, 1) := dk_45 (dk_at dksX9_gcd_2 6 rfl rfl)
theorem dX9_gcd_55 : decode cX9_gcd 55 = .ok (.invokevirtual 89, 3) := dk_182 0 89 (dk_at dksX9_gcd_2 7 rfl rfl)
theorem dX9_gcd_58 : decode cX9_gcd 58 = .ok (.aload_n 1, 1) := dk_43 (dk_at dksX9_gcd_2 10 rfl rfl)
theorem dX9_gcd_59 : decode cX9_gcd 59 = .ok (.iconst 0, 1) := dk_3 (dk_at dksX9_gcd_2 11 rfl rfl)
theorem dX9_gcd_60 : decode cX9_gcd 60 = .ok (.putfield 35, 3) := dk_181 0 35 (dk_at dksX9_gcd_2 12 rfl rfl)
theorem dX9_gcd_63 : decode cX9_gcd 63 = .ok (.return_, 1) := dk_177 (dk_at dksX9_gcd_2 15 rfl rfl)
theorem q406 : (Jvm.Cond.initialized "WasteHouse$ShareSolve$Reckoner") ∈ lw_all := lw_g (lw_at lw_m1 14 rfl) rfl
theorem q717 : (Jvm.Cond.instantiable "WasteHouse$ShareSolve$Reckoner" (4 : Nat)) ∈ lw_all := lw_g (lw_at lw_m2 85 rfl) rfl
theorem q719 : (Jvm.Cond.instanceMethod ({ cls := "WasteHouse$ShareSolve$Reckoner", name := "<init>", desc := "()V" } : Jvm.MethodName)) ∈ lw_all := lw_g (lw_at lw_m2 87 rfl) rfl
theorem q720 : (Jvm.Cond.code ({ cls := "WasteHouse$ShareSolve$Reckoner", name := "<init>", desc := "()V" } : Jvm.MethodName) prog_44_method_1_code (1 : Nat) (Option.none : Option Jvm.ClassFile.FieldType)) ∈ lw_all := lw_g (lw_at lw_m2 88 rfl) rfl
theorem q721 : (Jvm.Cond.methodLink "WasteHouse$ShareSolve$Reckoner" (1 : Nat) ({ cls := "java/lang/Object", name := "<init>", desc := "()V" } : Jvm.MethodName)) ∈ lw_all := lw_g (lw_at lw_m2 89 rfl) rfl
theorem q722 : (Jvm.Cond.classLink "WasteHouse$ShareSolve$Reckoner" (7 : Nat) "WasteHouse$ShareSolve$Whole") ∈ lw_all := lw_g (lw_at lw_m2 90 rfl) rfl
theorem q724 : (Jvm.Cond.methodLinkNest "WasteHouse$ShareSolve$Reckoner" (9 : Nat) ({ cls := "WasteHouse$ShareSolve$Whole", name := "<init>", desc := "()V" } : Jvm.MethodName) "WasteHouse") ∈ lw_tbl := lw_at lw_m2 92 rfl
theorem q729 : (Jvm.Cond.fieldLink "WasteHouse$ShareSolve$Reckoner" (30 : Nat) "WasteHouse$ShareSolve$Whole" "digits" "[I") ∈ lw_all := lw_g (lw_at lw_m2 97 rfl) rfl
theorem q730 : (Jvm.Cond.fieldLink "WasteHouse$ShareSolve$Reckoner" (26 : Nat) "WasteHouse$ShareSolve$Whole" "count" "I") ∈ lw_all := lw_g (lw_at lw_m2 98 rfl) rfl
theorem q733 : (Jvm.Cond.fieldLink "WasteHouse$ShareSolve$Reckoner" (35 : Nat) "WasteHouse$ShareSolve$Whole" "negative" "Z") ∈ lw_all := lw_g (lw_at lw_m2 101 rfl) rfl
theorem q745 : (Jvm.Cond.fieldLink "WasteHouse$ShareSolve$Reckoner" (10 : Nat) "WasteHouse$ShareSolve$Reckoner" "product" "LWasteHouse$ShareSolve$Whole;") ∈ lw_all := lw_g (lw_at lw_m2 113 rfl) rfl
theorem q746 : (Jvm.Cond.fieldLink "WasteHouse$ShareSolve$Reckoner" (16 : Nat) "WasteHouse$ShareSolve$Reckoner" "rest" "LWasteHouse$ShareSolve$Whole;") ∈ lw_all := lw_g (lw_at lw_m2 114 rfl) rfl
theorem q747 : (Jvm.Cond.fieldLink "WasteHouse$ShareSolve$Reckoner" (19 : Nat) "WasteHouse$ShareSolve$Reckoner" "other" "LWasteHouse$ShareSolve$Whole;") ∈ lw_all := lw_g (lw_at lw_m2 115 rfl) rfl
theorem q748 : (Jvm.Cond.fieldLink "WasteHouse$ShareSolve$Reckoner" (22 : Nat) "WasteHouse$ShareSolve$Reckoner" "high" "[I") ∈ lw_all := lw_g (lw_at lw_m2 116 rfl) rfl
theorem q749 : (Jvm.Cond.laysFinal "WasteHouse$ShareSolve$Reckoner" "WasteHouse$ShareSolve$Reckoner" "product" "LWasteHouse$ShareSolve$Whole;") ∈ lw_all := lw_g (lw_at lw_m2 117 rfl) rfl
theorem q750 : (Jvm.Cond.soleField "WasteHouse$ShareSolve$Reckoner" "product") ∈ lw_all := lw_g (lw_at lw_m2 118 rfl) rfl
theorem q751 : (Jvm.Cond.laysFinal "WasteHouse$ShareSolve$Reckoner" "WasteHouse$ShareSolve$Reckoner" "rest" "LWasteHouse$ShareSolve$Whole;") ∈ lw_all := lw_g (lw_at lw_m2 119 rfl) rfl
theorem q752 : (Jvm.Cond.soleField "WasteHouse$ShareSolve$Reckoner" "rest") ∈ lw_all := lw_g (lw_at lw_m2 120 rfl) rfl
theorem q753 : (Jvm.Cond.laysFinal "WasteHouse$ShareSolve$Reckoner" "WasteHouse$ShareSolve$Reckoner" "other" "LWasteHouse$ShareSolve$Whole;") ∈ lw_all := lw_g (lw_at lw_m2 121 rfl) rfl
theorem q754 : (Jvm.Cond.soleField "WasteHouse$ShareSolve$Reckoner" "other") ∈ lw_all := lw_g (lw_at lw_m2 122 rfl) rfl
theorem q755 : (Jvm.Cond.laysFinal "WasteHouse$ShareSolve$Reckoner" "WasteHouse$ShareSolve$Reckoner" "high" "[I") ∈ lw_all := lw_g (lw_at lw_m2 123 rfl) rfl
theorem q756 : (Jvm.Cond.soleField "WasteHouse$ShareSolve$Reckoner" "high") ∈ lw_all := lw_g (lw_at lw_m2 124 rfl) rfl
theorem q757 : (Jvm.Cond.superclass "WasteHouse$ShareSolve$Reckoner" "java/lang/Object") ∈ lw_all := lw_g (lw_at lw_m2 125 rfl) rfl
theorem q2013 : (Jvm.Cond.selects "WasteHouse$ShareSolve$Reckoner" ({ cls := "java/lang/Object", name := "getClass", desc := "()Ljava/lang/Class;" } : Jvm.MethodName) ({ cls := "java/lang/Object", name := "getClass", desc := "()Ljava/lang/Class;" } : Jvm.MethodName)) ∈ lw_all := lw_g (lw_at lw_m7 181 rfl) rfl
theorem q3123 : (Jvm.Cond.selects "WasteHouse$ShareSolve$Reckoner" ({ cls := "java/lang/Object", name := "equals", desc := "(Ljava/lang/Object;)Z" } : Jvm.MethodName) ({ cls := "java/lang/Object", name := "equals", desc := "(Ljava/lang/Object;)Z" } : Jvm.MethodName)) ∈ lw_all := lw_g (lw_at lw_m12 91 rfl) rfl
theorem q3641 : (Jvm.Cond.selects "WasteHouse$ShareSolve$Reckoner" ({ cls := "java/lang/Object", name := "hashCode", desc := "()I" } : Jvm.MethodName) ({ cls := "java/lang/Object", name := "hashCode", desc := "()I" } : Jvm.MethodName)) ∈ lw_all := lw_g (lw_at lw_m14 129 rfl) rfl
theorem q5274 : (Jvm.Cond.static ({ cls := "WasteHouse$ShareSolve$Reckoner", name := "multiply", desc := "(LWasteHouse$ShareSolve$Whole;LWasteHouse$ShareSolve$Whole;LWasteHouse$ShareSolve$Whole;)V" } : Jvm.MethodName)) ∈ lw_all := lw_g (lw_at lw_m21 82 rfl) rfl
theorem q5275 : (Jvm.Cond.code ({ cls := "WasteHouse$ShareSolve$Reckoner", name := "multiply", desc := "(LWasteHouse$ShareSolve$Whole;LWasteHouse$ShareSolve$Whole;LWasteHouse$ShareSolve$Whole;)V" } : Jvm.MethodName) prog_44_method_2_code (8 : Nat) (Option.none : Option Jvm.ClassFile.FieldType)) ∈ lw_all := lw_g (lw_at lw_m21 83 rfl) rfl
theorem q5276 : (Jvm.Cond.constantLong "WasteHouse$ShareSolve$Reckoner" (33 : Nat) (65535 : Int64)) ∈ lw_all := lw_g (lw_at lw_m21 84 rfl) rfl
theorem q5277 : (Jvm.Cond.methodLink "WasteHouse$ShareSolve$Reckoner" (39 : Nat) ({ cls := "WasteHouse$ShareSolve$Whole", name := "trim", desc := "(I)V" } : Jvm.MethodName)) ∈ lw_all := lw_g (lw_at lw_m21 85 rfl) rfl
theorem q5290 : (Jvm.Cond.static ({ cls := "WasteHouse$ShareSolve$Reckoner", name := "subtract", desc := "(LWasteHouse$ShareSolve$Whole;LWasteHouse$ShareSolve$Whole;)V" } : Jvm.MethodName)) ∈ lw_all := lw_g (lw_at lw_m21 98 rfl) rfl
theorem q5291 : (Jvm.Cond.code ({ cls := "WasteHouse$ShareSolve$Reckoner", name := "subtract", desc := "(LWasteHouse$ShareSolve$Whole;LWasteHouse$ShareSolve$Whole;)V" } : Jvm.MethodName) prog_44_method_3_code (9 : Nat) (Option.none : Option Jvm.ClassFile.FieldType)) ∈ lw_all := lw_g (lw_at lw_m21 99 rfl) rfl
theorem q5292 : (Jvm.Cond.methodLink "WasteHouse$ShareSolve$Reckoner" (43 : Nat) ({ cls := "WasteHouse$ShareSolve$Whole", name := "isZero", desc := "()Z" } : Jvm.MethodName)) ∈ lw_all := lw_g (lw_at lw_m21 100 rfl) rfl
theorem q5293 : (Jvm.Cond.methodLink "WasteHouse$ShareSolve$Reckoner" (47 : Nat) ({ cls := "WasteHouse$ShareSolve$Whole", name := "compareSize", desc := "(LWasteHouse$ShareSolve$Whole;)I" } : Jvm.MethodName)) ∈ lw_all := lw_g (lw_at lw_m21 101 rfl) rfl
theorem q5297 : (Jvm.Cond.methodLink "WasteHouse$ShareSolve$Reckoner" (51 : Nat) ({ cls := "java/lang/Math", name := "max", desc := "(II)I" } : Jvm.MethodName)) ∈ lw_all := lw_g (lw_at lw_m21 105 rfl) rfl
theorem q5298 : (Jvm.Cond.methodLink "WasteHouse$ShareSolve$Reckoner" (57 : Nat) ({ cls := "WasteHouse$ShareSolve$Whole", name := "at", desc := "(I)I" } : Jvm.MethodName)) ∈ lw_all := lw_g (lw_at lw_m21 106 rfl) rfl
theorem q5302 : (Jvm.Cond.constant "WasteHouse$ShareSolve$Reckoner" (61 : Nat) (65535 : Int32)) ∈ lw_all := lw_g (lw_at lw_m21 110 rfl) rfl
theorem q5329 : (Jvm.Cond.instanceMethod ({ cls := "WasteHouse$ShareSolve$Reckoner", name := "cross", desc := "(LWasteHouse$ShareSolve$Whole;LWasteHouse$ShareSolve$Whole;LWasteHouse$ShareSolve$Whole;LWasteHouse$ShareSolve$Whole;LWasteHouse$ShareSolve$Whole;)V" } : Jvm.MethodName)) ∈ lw_all := lw_g (lw_at lw_m21 137 rfl) rfl
theorem q5330 : (Jvm.Cond.selects "WasteHouse$ShareSolve$Reckoner" ({ cls := "WasteHouse$ShareSolve$Reckoner", name := "cross", desc := "(LWasteHouse$ShareSolve$Whole;LWasteHouse$ShareSolve$Whole;LWasteHouse$ShareSolve$Whole;LWasteHouse$ShareSolve$Whole;LWasteHouse$ShareSolve$Whole;)V" } : Jvm.MethodName) ({ cls := "WasteHouse$ShareSolve$Reckoner", name := "cross", desc := "(LWasteHouse$ShareSolve$Whole;LWasteHouse$ShareSolve$Whole;LWasteHouse$ShareSolve$Whole;LWasteHouse$ShareSolve$Whole;LWasteHouse$ShareSolve$Whole;)V" } : Jvm.MethodName)) ∈ lw_all := lw_g (lw_at lw_m21 138 rfl) rfl
theorem q5331 : (Jvm.Cond.code ({ cls := "WasteHouse$ShareSolve$Reckoner", name := "cross", desc := "(LWasteHouse$ShareSolve$Whole;LWasteHouse$ShareSolve$Whole;LWasteHouse$ShareSolve$Whole;LWasteHouse$ShareSolve$Whole;LWasteHouse$ShareSolve$Whole;)V" } : Jvm.MethodName) prog_44_method_4_code (6 : Nat) (Option.none : Option Jvm.ClassFile.FieldType)) ∈ lw_all := lw_g (lw_at lw_m21 139 rfl) rfl
theorem q5332 : (Jvm.Cond.methodLink "WasteHouse$ShareSolve$Reckoner" (62 : Nat) ({ cls := "WasteHouse$ShareSolve$Reckoner", name := "multiply", desc := "(LWasteHouse$ShareSolve$Whole;LWasteHouse$ShareSolve$Whole;LWasteHouse$ShareSolve$Whole;)V" } : Jvm.MethodName)) ∈ lw_all := lw_g (lw_at lw_m21 140 rfl) rfl
theorem q5333 : (Jvm.Cond.methodLink "WasteHouse$ShareSolve$Reckoner" (66 : Nat) ({ cls := "WasteHouse$ShareSolve$Reckoner", name := "subtract", desc := "(LWasteHouse$ShareSolve$Whole;LWasteHouse$ShareSolve$Whole;)V" } : Jvm.MethodName)) ∈ lw_all := lw_g (lw_at lw_m21 141 rfl) rfl
theorem q5335 : (Jvm.Cond.instanceMethod ({ cls := "WasteHouse$ShareSolve$Reckoner", name := "exact", desc := "(LWasteHouse$ShareSolve$Whole;LWasteHouse$ShareSolve$Whole;)V" } : Jvm.MethodName)) ∈ lw_all := lw_g (lw_at lw_m21 143 rfl) rfl
theorem q5336 : (Jvm.Cond.selects "WasteHouse$ShareSolve$Reckoner" ({ cls := "WasteHouse$ShareSolve$Reckoner", name := "exact", desc := "(LWasteHouse$ShareSolve$Whole;LWasteHouse$ShareSolve$Whole;)V" } : Jvm.MethodName) ({ cls := "WasteHouse$ShareSolve$Reckoner", name := "exact", desc := "(LWasteHouse$ShareSolve$Whole;LWasteHouse$ShareSolve$Whole;)V" } : Jvm.MethodName)) ∈ lw_all := lw_g (lw_at lw_m21 144 rfl) rfl
theorem q5337 : (Jvm.Cond.code ({ cls := "WasteHouse$ShareSolve$Reckoner", name := "exact", desc := "(LWasteHouse$ShareSolve$Whole;LWasteHouse$ShareSolve$Whole;)V" } : Jvm.MethodName) prog_44_method_9_code (4 : Nat) (Option.none : Option Jvm.ClassFile.FieldType)) ∈ lw_all := lw_g (lw_at lw_m21 145 rfl) rfl
theorem q5338 : (Jvm.Cond.methodLink "WasteHouse$ShareSolve$Reckoner" (93 : Nat) ({ cls := "WasteHouse$ShareSolve$Reckoner", name := "divide", desc := "(LWasteHouse$ShareSolve$Whole;LWasteHouse$ShareSolve$Whole;LWasteHouse$ShareSolve$Whole;)V" } : Jvm.MethodName)) ∈ lw_all := lw_g (lw_at lw_m21 146 rfl) rfl
theorem q5339 : (Jvm.Cond.instanceMethod ({ cls := "WasteHouse$ShareSolve$Reckoner", name := "divide", desc := "(LWasteHouse$ShareSolve$Whole;LWasteHouse$ShareSolve$Whole;LWasteHouse$ShareSolve$Whole;)V" } : Jvm.MethodName)) ∈ lw_all := lw_g (lw_at lw_m21 147 rfl) rfl
theorem q5340 : (Jvm.Cond.selects "WasteHouse$ShareSolve$Reckoner" ({ cls := "WasteHouse$ShareSolve$Reckoner", name := "divide", desc := "(LWasteHouse$ShareSolve$Whole;LWasteHouse$ShareSolve$Whole;LWasteHouse$ShareSolve$Whole;)V" } : Jvm.MethodName) ({ cls := "WasteHouse$ShareSolve$Reckoner", name := "divide", desc := "(LWasteHouse$ShareSolve$Whole;LWasteHouse$ShareSolve$Whole;LWasteHouse$ShareSolve$Whole;)V" } : Jvm.MethodName)) ∈ lw_all := lw_g (lw_at lw_m21 148 rfl) rfl
theorem q5341 : (Jvm.Cond.code ({ cls := "WasteHouse$ShareSolve$Reckoner", name := "divide", desc := "(LWasteHouse$ShareSolve$Whole;LWasteHouse$ShareSolve$Whole;LWasteHouse$ShareSolve$Whole;)V" } : Jvm.MethodName) prog_44_method_5_code (9 : Nat) (Option.none : Option Jvm.ClassFile.FieldType)) ∈ lw_all := lw_g (lw_at lw_m21 149 rfl) rfl
theorem q5342 : (Jvm.Cond.methodLink "WasteHouse$ShareSolve$Reckoner" (70 : Nat) ({ cls := "java/lang/Integer", name := "numberOfLeadingZeros", desc := "(I)I" } : Jvm.MethodName)) ∈ lw_all := lw_g (lw_at lw_m21 150 rfl) rfl
theorem q5343 : (Jvm.Cond.methodLink "WasteHouse$ShareSolve$Reckoner" (75 : Nat) ({ cls := "WasteHouse$ShareSolve$Reckoner", name := "digit", desc := "(ILWasteHouse$ShareSolve$Whole;I)I" } : Jvm.MethodName)) ∈ lw_all := lw_g (lw_at lw_m21 151 rfl) rfl
theorem q5344 : (Jvm.Cond.privateMethod ({ cls := "WasteHouse$ShareSolve$Reckoner", name := "digit", desc := "(ILWasteHouse$ShareSolve$Whole;I)I" } : Jvm.MethodName)) ∈ lw_tbl := lw_at lw_m21 152 rfl
theorem q5345 : (Jvm.Cond.instanceMethod ({ cls := "WasteHouse$ShareSolve$Reckoner", name := "digit", desc := "(ILWasteHouse$ShareSolve$Whole;I)I" } : Jvm.MethodName)) ∈ lw_all := lw_g (lw_at lw_m21 153 rfl) rfl
theorem q5346 : (Jvm.Cond.code ({ cls := "WasteHouse$ShareSolve$Reckoner", name := "digit", desc := "(ILWasteHouse$ShareSolve$Whole;I)I" } : Jvm.MethodName) prog_44_method_7_code (14 : Nat) (Option.some Jvm.ClassFile.FieldType.int)) ∈ lw_all := lw_g (lw_at lw_m21 154 rfl) rfl
theorem q5347 : (Jvm.Cond.methodLink "WasteHouse$ShareSolve$Reckoner" (82 : Nat) ({ cls := "WasteHouse$ShareSolve$Reckoner", name := "shifted", desc := "(LWasteHouse$ShareSolve$Whole;II)I" } : Jvm.MethodName)) ∈ lw_all := lw_g (lw_at lw_m21 155 rfl) rfl
theorem q5348 : (Jvm.Cond.static ({ cls := "WasteHouse$ShareSolve$Reckoner", name := "shifted", desc := "(LWasteHouse$ShareSolve$Whole;II)I" } : Jvm.MethodName)) ∈ lw_all := lw_g (lw_at lw_m21 156 rfl) rfl
theorem q5349 : (Jvm.Cond.code ({ cls := "WasteHouse$ShareSolve$Reckoner", name := "shifted", desc := "(LWasteHouse$ShareSolve$Whole;II)I" } : Jvm.MethodName) prog_44_method_6_code (3 : Nat) (Option.some Jvm.ClassFile.FieldType.int)) ∈ lw_all := lw_g (lw_at lw_m21 157 rfl) rfl
theorem q5350 : (Jvm.Cond.methodLink "WasteHouse$ShareSolve$Reckoner" (86 : Nat) ({ cls := "java/lang/Math", name := "min", desc := "(JJ)J" } : Jvm.MethodName)) ∈ lw_all := lw_g (lw_at lw_m21 158 rfl) rfl
theorem q5353 : (Jvm.Cond.methodLink "WasteHouse$ShareSolve$Reckoner" (79 : Nat) ({ cls := "java/lang/Math", name := "min", desc := "(II)I" } : Jvm.MethodName)) ∈ lw_all := lw_g (lw_at lw_m21 161 rfl) rfl
theorem q5354 : (Jvm.Cond.methodLink "WasteHouse$ShareSolve$Reckoner" (89 : Nat) ({ cls := "WasteHouse$ShareSolve$Whole", name := "copy", desc := "(LWasteHouse$ShareSolve$Whole;)V" } : Jvm.MethodName)) ∈ lw_all := lw_g (lw_at lw_m21 162 rfl) rfl
theorem q5750 : (Jvm.Cond.instanceMethod ({ cls := "WasteHouse$ShareSolve$Reckoner", name := "gcd", desc := "(LWasteHouse$ShareSolve$Whole;LWasteHouse$ShareSolve$Whole;)V" } : Jvm.MethodName)) ∈ lw_all := lw_g (lw_at lw_m23 78 rfl) rfl
theorem q5751 : (Jvm.Cond.selects "WasteHouse$ShareSolve$Reckoner" ({ cls := "WasteHouse$ShareSolve$Reckoner", name := "gcd", desc := "(LWasteHouse$ShareSolve$Whole;LWasteHouse$ShareSolve$Whole;)V" } : Jvm.MethodName) ({ cls := "WasteHouse$ShareSolve$Reckoner", name := "gcd", desc := "(LWasteHouse$ShareSolve$Whole;LWasteHouse$ShareSolve$Whole;)V" } : Jvm.MethodName)) ∈ lw_all := lw_g (lw_at lw_m23 79 rfl) rfl
theorem q5752 : (Jvm.Cond.code ({ cls := "WasteHouse$ShareSolve$Reckoner", name := "gcd", desc := "(LWasteHouse$ShareSolve$Whole;LWasteHouse$ShareSolve$Whole;)V" } : Jvm.MethodName) prog_44_method_8_code (6 : Nat) (Option.none : Option Jvm.ClassFile.FieldType)) ∈ lw_all := lw_g (lw_at lw_m23 80 rfl) rfl
theorem q9640 : (Jvm.Cond.castable "WasteHouse$ShareSolve$Reckoner" "java/lang/Object") ∈ lw_tbl := lw_at lw_m39 128 rfl
theorem in_X9 : ∀ w ∈ wsX90, w ∈ lw_all := lw_in wsX90 [749, 751, 753, 755] (by decide +kernel) (by decide +kernel)
