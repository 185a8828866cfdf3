/-! WasteHouse$HazardRules$Words -/
set_option maxRecDepth 100000
def RX13 : String := "WasteHouse$HazardRules$Words"
def TX13 : u_T := fun k => match k with
  | 0 => ("WasteHouse$HazardRules$Words", "bytes", "[B", true)
  | 1 => ("WasteHouse$HazardRules$Words", "size", "I", false)
  | 2 => ("WasteHouse$HazardRules$Words", "froms", "[I", true)
  | 3 => ("WasteHouse$HazardRules$Words", "tos", "[I", true)
  | 4 => ("WasteHouse$HazardRules$Words", "words", "[LWasteHouse$HazardRules$Word;", true)
  | 5 => ("WasteHouse$HazardRules$Words", "numbers", "[I", true)
  | 6 => ("WasteHouse$HazardRules$Words", "count", "I", false)
  | _ => ("WasteHouse$HazardRules$Words", "all", "[LWasteHouse$HazardRules$Word;", true)
def tyX13 : Nat → FieldType := fun k => match k with
  | 0 => .array .byte
  | 1 => .int
  | 2 => .array .int
  | 3 => .array .int
  | 4 => .array (.object "WasteHouse$HazardRules$Word")
  | 5 => .array .int
  | 6 => .int
  | _ => .array (.object "WasteHouse$HazardRules$Word")
abbrev wsX130 : List Cond := u_ws RX13 TX13 8
theorem nmX13 : ∀ a, a < 8 → ∀ b, b < 8 → a ≠ b → (TX13 a).2.1 ≠ (TX13 b).2.1 := by decide +kernel
theorem tyX13_ok : ∀ k, k < 8 → parseFieldDescriptor (TX13 k).2.2.1 = some (tyX13 k) := by decide +kernel
abbrev cX13_init : ByteArray := prog_23_method_1_code
def yX13_init : MethodName := ⟨RX13, "<init>", "()V"⟩
def dkwX13_init_2 : List UInt8 := [181, 0, 26, 42, 184, 0, 29, 181, 0, 33, 177]
abbrev dktX13_init_2 : List UInt8 := dkwX13_init_2 ++ []
def dkwX13_init_1 : List UInt8 := [17, 5, 220, 188, 10, 181, 0, 17, 42, 17, 5, 220, 189, 0, 20, 181, 0, 22, 42, 17, 5, 220, 188, 10]
abbrev dktX13_init_1 : List UInt8 := dkwX13_init_1 ++ dktX13_init_2
def dkwX13_init_0 : List UInt8 := [42, 183, 0, 1, 42, 17, 11, 184, 188, 8, 181, 0, 7, 42, 17, 5, 220, 188, 10, 181, 0, 13, 42]
abbrev dktX13_init_0 : List UInt8 := dkwX13_init_0 ++ dktX13_init_1
theorem dksX13_init_0 : cX13_init.data.toList.drop 0 = dktX13_init_0 := by decide +kernel
theorem dksX13_init_1 : cX13_init.data.toList.drop 23 = dktX13_init_1 := dk_seg dksX13_init_0 23 rfl rfl
theorem dksX13_init_2 : cX13_init.data.toList.drop 47 = dktX13_init_2 := dk_seg dksX13_init_1 24 rfl rfl
theorem dX13_init_0 : decode cX13_init 0 = .ok (.aload_n 0, 1) := dk_42 (dk_at dksX13_init_0 0 rfl rfl)
theorem dX13_init_1 : decode cX13_init 1 = .ok (.invokespecial 1, 3) := dk_183 0 1 (dk_at dksX13_init_0 1 rfl rfl)
theorem dX13_init_4 : decode cX13_init 4 = .ok (.aload_n 0, 1) := dk_42 (dk_at dksX13_init_0 4 rfl rfl)
theorem dX13_init_5 : decode cX13_init 5 = .ok (.sipush 3000, 3) := dk_17 11 184 (dk_at dksX13_init_0 5 rfl rfl)
theorem dX13_init_8 : decode cX13_init 8 = .ok (.newarray .byte, 2) := dk_188_8 (dk_at dksX13_init_0 8 rfl rfl)
theorem dX13_init_10 : decode cX13_init 10 = .ok (.putfield 7, 3) := dk_181 0 7 (dk_at dksX13_init_0 10 rfl rfl)
theorem dX13_init_13 : decode cX13_init 13 = .ok (.aload_n 0, 1) := dk_42 (dk_at dksX13_init_0 13 rfl rfl)
theorem dX13_init_14 : decode cX13_init 14 = .ok (.sipush 1500, 3) := dk_17 5 220 (dk_at dksX13_init_0 14 rfl rfl)
theorem dX13_init_17 : decode cX13_init 17 = .ok (.newarray .int, 2) := dk_188_10 (dk_at dksX13_init_0 17 rfl rfl)
theorem dX13_init_19 : decode cX13_init 19 = .ok (.putfield 13, 3) := dk_181 0 13 (dk_at dksX13_init_0 19 rfl rfl)
theorem dX13_init_22 : decode cX13_init 22 = .ok (.aload_n 0, 1) := dk_42 (dk_at dksX13_init_0 22 rfl rfl)
theorem dX13_init_23 : decode cX13_init 23 = .ok (.sipush 1500, 3) := dk_17 5 220 (dk_at dksX13_init_1 0 rfl rfl)
theorem dX13_init_26 : decode cX13_init 26 = .ok (.newarray .int, 2) := dk_188_10 (dk_at dksX13_init_1 3 rfl rfl)
theorem dX13_init_28 : decode cX13_init 28 = .ok (.putfield 17, 3) := dk_181 0 17 (dk_at dksX13_init_1 5 rfl rfl)
theorem dX13_init_31 : decode cX13_init 31 = .ok (.aload_n 0, 1) := dk_42 (dk_at dksX13_init_1 8 rfl rfl)
theorem dX13_init_32 : decode cX13_init 32 = .ok (.sipush 1500, 3) := dk_17 5 220 (dk_at dksX13_init_1 9 rfl rfl)
theorem dX13_init_35 : decode cX13_init 35 = .ok (.anewarray 20, 3) := dk_189 0 20 (dk_at dksX13_init_1 12 rfl rfl)
theorem dX13_init_38 : decode cX13_init 38 = .ok (.putfield 22, 3) := dk_181 0 22 (dk_at dksX13_init_1 15 rfl rfl)
theorem dX13_init_41 : decode cX13_init 41 = .ok (.aload_n 0, 1) := dk_42 (dk_at dksX13_init_1 18 rfl rfl)
theorem dX13_init_42 : decode cX13_init 42 = .ok (.sipush 1500, 3) := dk_17 5 220 (dk_at dksX13_init_1 19 rfl rfl)
theorem dX13_init_45 : decode cX13_init 45 = .ok (.newarray .int, 2) := dk_188_10 (dk_at dksX13_init_1 22 rfl rfl)
theorem dX13_init_47 : decode cX13_init 47 = .ok (.putfield 26, 3) := dk_181 0 26 (dk_at dksX13_init_2 0 rfl rfl)
theorem dX13_init_50 : decode cX13_init 50 = .ok (.aload_n 0, 1) := dk_42 (dk_at dksX13_init_2 3 rfl rfl)
theorem dX13_init_51 : decode cX13_init 51 = .ok (.invokestatic 29, 3) := dk_184 0 29 (dk_at dksX13_init_2 4 rfl rfl)
theorem dX13_init_54 : decode cX13_init 54 = .ok (.putfield 33, 3) := dk_181 0 33 (dk_at dksX13_init_2 7 rfl rfl)
theorem dX13_init_57 : decode cX13_init 57 = .ok (.return_, 1) := dk_177 (dk_at dksX13_init_2 10 rfl rfl)
abbrev cX13_split : ByteArray := prog_23_method_3_code
def yX13_split : MethodName := ⟨RX13, "split", "()V"⟩
def dkwX13_split_4 : List UInt8 := [42, 89, 180, 0, 36, 4, 96, 181, 0, 36, 167, 255, 157, 177]
abbrev dktX13_split_4 : List UInt8 := dkwX13_split_4 ++ []
def dkwX13_split_3 : List UInt8 := [180, 0, 17, 42, 180, 0, 36, 27, 79, 42, 180, 0, 22, 42, 180, 0, 36, 42, 28, 27, 182, 0, 47, 83]
abbrev dktX13_split_3 : List UInt8 := dkwX13_split_3 ++ dktX13_split_4
def dkwX13_split_2 : List UInt8 := [51, 184, 0, 43, 154, 0, 9, 132, 1, 1, 167, 255, 233, 42, 180, 0, 13, 42, 180, 0, 36, 28, 79, 42]
abbrev dktX13_split_2 : List UInt8 := dkwX13_split_2 ++ dktX13_split_3
def dkwX13_split_1 : List UInt8 := [153, 0, 9, 132, 1, 1, 167, 255, 233, 27, 61, 27, 42, 180, 0, 40, 162, 0, 21, 42, 180, 0, 7, 27]
abbrev dktX13_split_1 : List UInt8 := dkwX13_split_1 ++ dktX13_split_2
def dkwX13_split_0 : List UInt8 := [42, 3, 181, 0, 36, 3, 60, 27, 42, 180, 0, 40, 162, 0, 97, 42, 180, 0, 7, 27, 51, 184, 0, 43]
abbrev dktX13_split_0 : List UInt8 := dkwX13_split_0 ++ dktX13_split_1
theorem dksX13_split_0 : cX13_split.data.toList.drop 0 = dktX13_split_0 := by decide +kernel
theorem dksX13_split_1 : cX13_split.data.toList.drop 24 = dktX13_split_1 := dk_seg dksX13_split_0 24 rfl rfl
theorem dksX13_split_2 : cX13_split.data.toList.drop 48 = dktX13_split_2 := dk_seg dksX13_split_1 24 rfl rfl
theorem dksX13_split_3 : cX13_split.data.toList.drop 72 = dktX13_split_3 := dk_seg dksX13_split_2 24 rfl rfl
theorem dksX13_split_4 : cX13_split.data.toList.drop 96 = dktX13_split_4 := dk_seg dksX13_split_3 24 rfl rfl
theorem dX13_split_0 : decode cX13_split 0 = .ok (.aload_n 0, 1) := dk_42 (dk_at dksX13_split_0 0 rfl rfl)
theorem dX13_split_1 : decode cX13_split 1 = .ok (.iconst 0, 1) := dk_3 (dk_at dksX13_split_0 1 rfl rfl)
theorem dX13_split_2 : decode cX13_split 2 = .ok (.putfield 36, 3) := dk_181 0 36 (dk_at dksX13_split_0 2 rfl rfl)
theorem dX13_split_5 : decode cX13_split 5 = .ok (.iconst 0, 1) := dk_3 (dk_at dksX13_split_0 5 rfl rfl)
theorem dX13_split_6 : decode cX13_split 6 = .ok (.istore_n 1, 1) := dk_60 (dk_at dksX13_split_0 6 rfl rfl)
theorem dX13_split_7 : decode cX13_split 7 = .ok (.iload_n 1, 1) := dk_27 (dk_at dksX13_split_0 7 rfl rfl)
theorem dX13_split_8 : decode cX13_split 8 = .ok (.aload_n 0, 1) := dk_42 (dk_at dksX13_split_0 8 rfl rfl)
theorem dX13_split_9 : decode cX13_split 9 = .ok (.getfield 40, 3) := dk_180 0 40 (dk_at dksX13_split_0 9 rfl rfl)
theorem dX13_split_12 : decode cX13_split 12 = .ok (.if_icmp .ge 97, 3) := dk_162 0 97 (dk_at dksX13_split_0 12 rfl rfl)
theorem dX13_split_15 : decode cX13_split 15 = .ok (.aload_n 0, 1) := dk_42 (dk_at dksX13_split_0 15 rfl rfl)
theorem dX13_split_16 : decode cX13_split 16 = .ok (.getfield 7, 3) := dk_180 0 7 (dk_at dksX13_split_0 16 rfl rfl)
theorem dX13_split_19 : decode cX13_split 19 = .ok (.iload_n 1, 1) := dk_27 (dk_at dksX13_split_0 19 rfl rfl)
theorem dX13_split_20 : decode cX13_split 20 = .ok (.baload, 1) := dk_51 (dk_at dksX13_split_0 20 rfl rfl)
theorem dX13_split_21 : decode cX13_split 21 = .ok (.invokestatic 43, 3) := dk_184 0 43 (dk_at dksX13_split_0 21 rfl rfl)
theorem dX13_split_24 : decode cX13_split 24 = .ok (.ifCond .eq 9, 3) := dk_153 0 9 (dk_at dksX13_split_1 0 rfl rfl)
theorem dX13_split_27 : decode cX13_split 27 = .ok (.iinc 1 1, 3) := dk_132 1 1 (dk_at dksX13_split_1 3 rfl rfl)
theorem dX13_split_30 : decode cX13_split 30 = .ok (.goto (-23), 3) := dk_167 255 233 (dk_at dksX13_split_1 6 rfl rfl)
theorem dX13_split_33 : decode cX13_split 33 = .ok (.iload_n 1, 1) := dk_27 (dk_at dksX13_split_1 9 rfl rfl)
theorem dX13_split_34 : decode cX13_split 34 = .ok (.istore_n 2, 1) := dk_61 (dk_at dksX13_split_1 10 rfl rfl)
theorem dX13_split_35 : decode cX13_split 35 = .ok (.iload_n 1, 1) := dk_27 (dk_at dksX13_split_1 11 rfl rfl)
theorem dX13_split_36 : decode cX13_split 36 = .ok (.aload_n 0, 1) := dk_42 (dk_at dksX13_split_1 12 rfl rfl)
theorem dX13_split_37 : decode cX13_split 37 = .ok (.getfield 40, 3) := dk_180 0 40 (dk_at dksX13_split_1 13 rfl rfl)
theorem dX13_split_40 : decode cX13_split 40 = .ok (.if_icmp .ge 21, 3) := dk_162 0 21 (dk_at dksX13_split_1 16 rfl rfl)
theorem dX13_split_43 : decode cX13_split 43 = .ok (.aload_n 0, 1) := dk_42 (dk_at dksX13_split_1 19 rfl rfl)
theorem dX13_split_44 : decode cX13_split 44 = .ok (.getfield 7, 3) := dk_180 0 7 (dk_at dksX13_split_1 20 rfl rfl)
theorem dX13_split_47 : decode cX13_split 47 = .ok (.iload_n 1, 1) := dk_27 (dk_at dksX13_split_1 23 rfl rfl)
theorem dX13_split_48 : decode cX13_split 48 = .ok (.baload, 1) := dk_51 (dk_at dksX13_split_2 0 rfl rfl)
theorem dX13_split_49 : decode cX13_split 49 = .ok (.invokestatic 43, 3) := dk_184 0 43 (dk_at dksX13_split_2 1 rfl rfl)
theorem dX13_split_52 : decode cX13_split 52 = .ok (.ifCond .ne 9, 3) := dk_154 0 9 (dk_at dksX13_split_2 4 rfl rfl)
theorem dX13_split_55 : decode cX13_split 55 = .ok (.iinc 1 1, 3) := dk_132 1 1 (dk_at dksX13_split_2 7 rfl rfl)
theorem dX13_split_58 : decode cX13_split 58 = .ok (.goto (-23), 3) := dk_167 255 233 (dk_at dksX13_split_2 10 rfl rfl)
theorem dX13_split_61 : decode cX13_split 61 = .ok (.aload_n 0, 1) := dk_42 (dk_at dksX13_split_2 13 rfl rfl)
theorem dX13_split_62 : decode cX13_split 62 = .ok (.getfield 13, 3) := dk_180 0 13 (dk_at dksX13_split_2 14 rfl rfl)
theorem dX13_split_65 : decode cX13_split 65 = .ok (.aload_n 0, 1) := dk_42 (dk_at dksX13_split_2 17 rfl rfl)
theorem dX13_split_66 : decode cX13_split 66 = .ok (.getfield 36, 3) := dk_180 0 36 (dk_at dksX13_split_2 18 rfl rfl)
theorem dX13_split_69 : decode cX13_split 69 = .ok (.iload_n 2, 1) := dk_28 (dk_at dksX13_split_2 21 rfl rfl)
theorem dX13_split_70 : decode cX13_split 70 = .ok (.iastore, 1) := dk_79 (dk_at dksX13_split_2 22 rfl rfl)
theorem dX13_split_71 : decode cX13_split 71 = .ok (.aload_n 0, 1) := dk_42 (dk_at dksX13_split_2 23 rfl rfl)
theorem dX13_split_72 : decode cX13_split 72 = .ok (.getfield 17, 3) := dk_180 0 17 (dk_at dksX13_split_3 0 rfl rfl)
theorem dX13_split_75 : decode cX13_split 75 = .ok (.aload_n 0, 1) := dk_42 (dk_at dksX13_split_3 3 rfl rfl)
theorem dX13_split_76 : decode cX13_split 76 = .ok (.getfield 36, 3) := dk_180 0 36 (dk_at dksX13_split_3 4 rfl rfl)
theorem dX13_split_79 : decode cX13_split 79 = .ok (.iload_n 1, 1) := dk_27 (dk_at dksX13_split_3 7 rfl rfl)
theorem dX13_split_80 : decode cX13_split 80 = .ok (.iastore, 1) := dk_79 (dk_at dksX13_split_3 8 rfl rfl)
theorem dX13_split_81 : decode cX13_split 81 = .ok (.aload_n 0, 1) := dk_42 (dk_at dksX13_split_3 9 rfl rfl)
theorem dX13_split_82 : decode cX13_split 82 = .ok (.getfield 22, 3) := dk_180 0 22 (dk_at dksX13_split_3 10 rfl rfl)
theorem dX13_split_85 : decode cX13_split 85 = .ok (.aload_n 0, 1) := dk_42 (dk_at dksX13_split_3 13 rfl rfl)
theorem dX13_split_86 : decode cX13_split 86 = .ok (.getfield 36, 3) := dk_180 0 36 (dk_at dksX13_split_3 14 rfl rfl)
theorem dX13_split_89 : decode cX13_split 89 = .ok (.aload_n 0, 1) := dk_42 (dk_at dksX13_split_3 17 rfl rfl)
theorem dX13_split_90 : decode cX13_split 90 = .ok (.iload_n 2, 1) := dk_28 (dk_at dksX13_split_3 18 rfl rfl)
theorem dX13_split_91 : decode cX13_split 91 = .ok (.iload_n 1, 1) := dk_27 (dk_at dksX13_split_3 19 rfl rfl)
theorem dX13_split_92 : decode cX13_split 92 = .ok (.invokevirtual 47, 3) := dk_182 0 47 (dk_at dksX13_split_3 20 rfl rfl)
theorem dX13_split_95 : decode cX13_split 95 = .ok (.aastore, 1) := dk_83 (dk_at dksX13_split_3 23 rfl rfl)
theorem dX13_split_96 : decode cX13_split 96 = .ok (.aload_n 0, 1) := dk_42 (dk_at dksX13_split_4 0 rfl rfl)
theorem dX13_split_97 : decode cX13_split 97 = .ok (.dup, 1) := dk_89 (dk_at dksX13_split_4 1 rfl rfl)
theorem dX13_split_98 : decode cX13_split 98 = .ok (.getfield 36, 3) := dk_180 0 36 (dk_at dksX13_split_4 2 rfl rfl)
theorem dX13_split_101 : decode cX13_split 101 = .ok (.iconst 1, 1) := dk_4 (dk_at dksX13_split_4 5 rfl rfl)
theorem dX13_split_102 : decode cX13_split 102 = .ok (.iadd, 1) := dk_96 (dk_at dksX13_split_4 6 rfl rfl)
theorem dX13_split_103 : decode cX13_split 103 = .ok (.putfield 36, 3) := dk_181 0 36 (dk_at dksX13_split_4 7 rfl rfl)
theorem dX13_split_106 : decode cX13_split 106 = .ok (.goto (-99), 3) := dk_167 255 157 (dk_at dksX13_split_4 10 rfl rfl)
theorem dX13_split_109 : decode cX13_split 109 = .ok (.return_, 1) := dk_177 (dk_at dksX13_split_4 13 rfl rfl)
abbrev cX13_isBlank : ByteArray := prog_23_method_2_code
def yX13_isBlank : MethodName := ⟨RX13, "isBlank", "(I)Z"⟩
def dkwX13_isBlank_0 : List UInt8 := [26, 16, 32, 159, 0, 9, 26, 16, 10, 160, 0, 7, 4, 167, 0, 4, 3, 172]
abbrev dktX13_isBlank_0 : List UInt8 := dkwX13_isBlank_0 ++ []
theorem dksX13_isBlank_0 : cX13_isBlank.data.toList.drop 0 = dktX13_isBlank_0 := by decide +kernel
theorem dX13_isBlank_0 : decode cX13_isBlank 0 = .ok (.iload_n 0, 1) := dk_26 (dk_at dksX13_isBlank_0 0 rfl rfl)
theorem dX13_isBlank_1 : decode cX13_isBlank 1 = .ok (.bipush 32, 2) := dk_16 32 (dk_at dksX13_isBlank_0 1 rfl rfl)
theorem dX13_isBlank_3 : decode cX13_isBlank 3 = .ok (.if_icmp .eq 9, 3) := dk_159 0 9 (dk_at dksX13_isBlank_0 3 rfl rfl)
theorem dX13_isBlank_6 : decode cX13_isBlank 6 = .ok (.iload_n 0, 1) := dk_26 (dk_at dksX13_isBlank_0 6 rfl rfl)
theorem dX13_isBlank_7 : decode cX13_isBlank 7 = .ok (.bipush 10, 2) := dk_16 10 (dk_at dksX13_isBlank_0 7 rfl rfl)
theorem dX13_isBlank_9 : decode cX13_isBlank 9 = .ok (.if_icmp .ne 7, 3) := dk_160 0 7 (dk_at dksX13_isBlank_0 9 rfl rfl)
theorem dX13_isBlank_12 : decode cX13_isBlank 12 = .ok (.iconst 1, 1) := dk_4 (dk_at dksX13_isBlank_0 12 rfl rfl)
theorem dX13_isBlank_13 : decode cX13_isBlank 13 = .ok (.goto 4, 3) := dk_167 0 4 (dk_at dksX13_isBlank_0 13 rfl rfl)
theorem dX13_isBlank_16 : decode cX13_isBlank 16 = .ok (.iconst 0, 1) := dk_3 (dk_at dksX13_isBlank_0 16 rfl rfl)
theorem dX13_isBlank_17 : decode cX13_isBlank 17 = .ok (.ireturn, 1) := dk_172 (dk_at dksX13_isBlank_0 17 rfl rfl)
abbrev cX13_kind : ByteArray := prog_23_method_4_code
def yX13_kind : MethodName := ⟨RX13, "kind", "(II)LWasteHouse$HazardRules$Word;"⟩
def dkwX13_kind_7 : List UInt8 := [167, 255, 202, 25, 5, 176]
abbrev dktX13_kind_7 : List UInt8 := dkwX13_kind_7 ++ []
def dkwX13_kind_6 : List UInt8 := [182, 0, 58, 153, 0, 13, 42, 180, 0, 33, 21, 6, 50, 167, 0, 5, 25, 5, 58, 5, 132, 6, 1]
abbrev dktX13_kind_6 : List UInt8 := dkwX13_kind_6 ++ dktX13_kind_7
def dkwX13_kind_5 : List UInt8 := [162, 0, 50, 25, 5, 178, 0, 55, 166, 0, 42, 42, 180, 0, 33, 21, 6, 50, 42, 180, 0, 7, 27, 28]
abbrev dktX13_kind_5 : List UInt8 := dkwX13_kind_5 ++ dktX13_kind_6
def dkwX13_kind_4 : List UInt8 := [180, 0, 36, 29, 79, 178, 0, 51, 176, 178, 0, 55, 58, 5, 3, 54, 6, 21, 6, 42, 180, 0, 33, 190]
abbrev dktX13_kind_4 : List UInt8 := dkwX13_kind_4 ++ dktX13_kind_5
def dkwX13_kind_3 : List UInt8 := [21, 5, 51, 96, 16, 48, 100, 62, 132, 5, 1, 167, 255, 195, 21, 4, 153, 0, 17, 42, 180, 0, 26, 42]
abbrev dktX13_kind_3 : List UInt8 := dkwX13_kind_3 ++ dktX13_kind_4
def dkwX13_kind_2 : List UInt8 := [21, 5, 51, 16, 57, 163, 0, 7, 4, 167, 0, 4, 3, 54, 4, 16, 10, 29, 104, 42, 180, 0, 7]
abbrev dktX13_kind_2 : List UInt8 := dkwX13_kind_2 ++ dktX13_kind_3
def dkwX13_kind_1 : List UInt8 := [162, 0, 61, 21, 4, 153, 0, 56, 42, 180, 0, 7, 21, 5, 51, 16, 48, 161, 0, 19, 42, 180, 0, 7]
abbrev dktX13_kind_1 : List UInt8 := dkwX13_kind_1 ++ dktX13_kind_2
def dkwX13_kind_0 : List UInt8 := [3, 62, 28, 27, 100, 16, 9, 163, 0, 7, 4, 167, 0, 4, 3, 54, 4, 27, 54, 5, 21, 5, 28]
abbrev dktX13_kind_0 : List UInt8 := dkwX13_kind_0 ++ dktX13_kind_1
theorem dksX13_kind_0 : cX13_kind.data.toList.drop 0 = dktX13_kind_0 := by decide +kernel
theorem dksX13_kind_1 : cX13_kind.data.toList.drop 23 = dktX13_kind_1 := dk_seg dksX13_kind_0 23 rfl rfl
theorem dksX13_kind_2 : cX13_kind.data.toList.drop 47 = dktX13_kind_2 := dk_seg dksX13_kind_1 24 rfl rfl
theorem dksX13_kind_3 : cX13_kind.data.toList.drop 70 = dktX13_kind_3 := dk_seg dksX13_kind_2 23 rfl rfl
theorem dksX13_kind_4 : cX13_kind.data.toList.drop 94 = dktX13_kind_4 := dk_seg dksX13_kind_3 24 rfl rfl
theorem dksX13_kind_5 : cX13_kind.data.toList.drop 118 = dktX13_kind_5 := dk_seg dksX13_kind_4 24 rfl rfl
theorem dksX13_kind_6 : cX13_kind.data.toList.drop 142 = dktX13_kind_6 := dk_seg dksX13_kind_5 24 rfl rfl
theorem dksX13_kind_7 : cX13_kind.data.toList.drop 165 = dktX13_kind_7 := dk_seg dksX13_kind_6 23 rfl rfl
theorem dX13_kind_0 : decode cX13_kind 0 = .ok (.iconst 0, 1) := dk_3 (dk_at dksX13_kind_0 0 rfl rfl)
theorem dX13_kind_1 : decode cX13_kind 1 = .ok (.istore_n 3, 1) := dk_62 (dk_at dksX13_kind_0 1 rfl rfl)
theorem dX13_kind_2 : decode cX13_kind 2 = .ok (.iload_n 2, 1) := dk_28 (dk_at dksX13_kind_0 2 rfl rfl)
theorem dX13_kind_3 : decode cX13_kind 3 = .ok (.iload_n 1, 1) := dk_27 (dk_at dksX13_kind_0 3 rfl rfl)
theorem dX13_kind_4 : decode cX13_kind 4 = .ok (.isub, 1) := dk_100 (dk_at dksX13_kind_0 4 rfl rfl)
theorem dX13_kind_5 : decode cX13_kind 5 = .ok (.bipush 9, 2) := dk_16 9 (dk_at dksX13_kind_0 5 rfl rfl)
theorem dX13_kind_7 : decode cX13_kind 7 = .ok (.if_icmp .gt 7, 3) := dk_163 0 7 (dk_at dksX13_kind_0 7 rfl rfl)
theorem dX13_kind_10 : decode cX13_kind 10 = .ok (.iconst 1, 1) := dk_4 (dk_at dksX13_kind_0 10 rfl rfl)
theorem dX13_kind_11 : decode cX13_kind 11 = .ok (.goto 4, 3) := dk_167 0 4 (dk_at dksX13_kind_0 11 rfl rfl)
theorem dX13_kind_14 : decode cX13_kind 14 = .ok (.iconst 0, 1) := dk_3 (dk_at dksX13_kind_0 14 rfl rfl)
theorem dX13_kind_15 : decode cX13_kind 15 = .ok (.istore 4, 2) := dk_54 4 (dk_at dksX13_kind_0 15 rfl rfl)
theorem dX13_kind_17 : decode cX13_kind 17 = .ok (.iload_n 1, 1) := dk_27 (dk_at dksX13_kind_0 17 rfl rfl)
theorem dX13_kind_18 : decode cX13_kind 18 = .ok (.istore 5, 2) := dk_54 5 (dk_at dksX13_kind_0 18 rfl rfl)
theorem dX13_kind_20 : decode cX13_kind 20 = .ok (.iload 5, 2) := dk_21 5 (dk_at dksX13_kind_0 20 rfl rfl)
theorem dX13_kind_22 : decode cX13_kind 22 = .ok (.iload_n 2, 1) := dk_28 (dk_at dksX13_kind_0 22 rfl rfl)
theorem dX13_kind_23 : decode cX13_kind 23 = .ok (.if_icmp .ge 61, 3) := dk_162 0 61 (dk_at dksX13_kind_1 0 rfl rfl)
theorem dX13_kind_26 : decode cX13_kind 26 = .ok (.iload 4, 2) := dk_21 4 (dk_at dksX13_kind_1 3 rfl rfl)
theorem dX13_kind_28 : decode cX13_kind 28 = .ok (.ifCond .eq 56, 3) := dk_153 0 56 (dk_at dksX13_kind_1 5 rfl rfl)
theorem dX13_kind_31 : decode cX13_kind 31 = .ok (.aload_n 0, 1) := dk_42 (dk_at dksX13_kind_1 8 rfl rfl)
theorem dX13_kind_32 : decode cX13_kind 32 = .ok (.getfield 7, 3) := dk_180 0 7 (dk_at dksX13_kind_1 9 rfl rfl)
theorem dX13_kind_35 : decode cX13_kind 35 = .ok (.iload 5, 2) := dk_21 5 (dk_at dksX13_kind_1 12 rfl rfl)
theorem dX13_kind_37 : decode cX13_kind 37 = .ok (.baload, 1) := dk_51 (dk_at dksX13_kind_1 14 rfl rfl)
theorem dX13_kind_38 : decode cX13_kind 38 = .ok (.bipush 48, 2) := dk_16 48 (dk_at dksX13_kind_1 15 rfl rfl)
theorem dX13_kind_40 : decode cX13_kind 40 = .ok (.if_icmp .lt 19, 3) := dk_161 0 19 (dk_at dksX13_kind_1 17 rfl rfl)
theorem dX13_kind_43 : decode cX13_kind 43 = .ok (.aload_n 0, 1) := dk_42 (dk_at dksX13_kind_1 20 rfl rfl)
theorem dX13_kind_44 : decode cX13_kind 44 = .ok (.getfield 7, 3) := dk_180 0 7 (dk_at dksX13_kind_1 21 rfl rfl)
theorem dX13_kind_47 : decode cX13_kind 47 = .ok (.iload 5, 2) := dk_21 5 (dk_at dksX13_kind_2 0 rfl rfl)
theorem dX13_kind_49 : decode cX13_kind 49 = .ok (.baload, 1) := dk_51 (dk_at dksX13_kind_2 2 rfl rfl)
theorem dX13_kind_50 : decode cX13_kind 50 = .ok (.bipush 57, 2) := dk_16 57 (dk_at dksX13_kind_2 3 rfl rfl)
theorem dX13_kind_52 : decode cX13_kind 52 = .ok (.if_icmp .gt 7, 3) := dk_163 0 7 (dk_at dksX13_kind_2 5 rfl rfl)
theorem dX13_kind_55 : decode cX13_kind 55 = .ok (.iconst 1, 1) := dk_4 (dk_at dksX13_kind_2 8 rfl rfl)
theorem dX13_kind_56 : decode cX13_kind 56 = .ok (.goto 4, 3) := dk_167 0 4 (dk_at dksX13_kind_2 9 rfl rfl)
theorem dX13_kind_59 : decode cX13_kind 59 = .ok (.iconst 0, 1) := dk_3 (dk_at dksX13_kind_2 12 rfl rfl)
theorem dX13_kind_60 : decode cX13_kind 60 = .ok (.istore 4, 2) := dk_54 4 (dk_at dksX13_kind_2 13 rfl rfl)
theorem dX13_kind_62 : decode cX13_kind 62 = .ok (.bipush 10, 2) := dk_16 10 (dk_at dksX13_kind_2 15 rfl rfl)
theorem dX13_kind_64 : decode cX13_kind 64 = .ok (.iload_n 3, 1) := dk_29 (dk_at dksX13_kind_2 17 rfl rfl)
theorem dX13_kind_65 : decode cX13_kind 65 = .ok (.imul, 1) := dk_104 (dk_at dksX13_kind_2 18 rfl rfl)
theorem dX13_kind_66 : decode cX13_kind 66 = .ok (.aload_n 0, 1) := dk_42 (dk_at dksX13_kind_2 19 rfl rfl)
theorem dX13_kind_67 : decode cX13_kind 67 = .ok (.getfield 7, 3) := dk_180 0 7 (dk_at dksX13_kind_2 20 rfl rfl)
theorem dX13_kind_70 : decode cX13_kind 70 = .ok (.iload 5, 2) := dk_21 5 (dk_at dksX13_kind_3 0 rfl rfl)
theorem dX13_kind_72 : decode cX13_kind 72 = .ok (.baload, 1) := dk_51 (dk_at dksX13_kind_3 2 rfl rfl)
theorem dX13_kind_73 : decode cX13_kind 73 = .ok (.iadd, 1) := dk_96 (dk_at dksX13_kind_3 3 rfl rfl)
theorem dX13_kind_74 : decode cX13_kind 74 = .ok (.bipush 48, 2) := dk_16 48 (dk_at dksX13_kind_3 4 rfl rfl)
theorem dX13_kind_76 : decode cX13_kind 76 = .ok (.isub, 1) := dk_100 (dk_at dksX13_kind_3 6 rfl rfl)
theorem dX13_kind_77 : decode cX13_kind 77 = .ok (.istore_n 3, 1) := dk_62 (dk_at dksX13_kind_3 7 rfl rfl)
theorem dX13_kind_78 : decode cX13_kind 78 = .ok (.iinc 5 1, 3) := dk_132 5 1 (dk_at dksX13_kind_3 8 rfl rfl)
theorem dX13_kind_81 : decode cX13_kind 81 = .ok (.goto (-61), 3) := dk_167 255 195 (dk_at dksX13_kind_3 11 rfl rfl)
theorem dX13_kind_84 : decode cX13_kind 84 = .ok (.iload 4, 2) := dk_21 4 (dk_at dksX13_kind_3 14 rfl rfl)
theorem dX13_kind_86 : decode cX13_kind 86 = .ok (.ifCond .eq 17, 3) := dk_153 0 17 (dk_at dksX13_kind_3 16 rfl rfl)
theorem dX13_kind_89 : decode cX13_kind 89 = .ok (.aload_n 0, 1) := dk_42 (dk_at dksX13_kind_3 19 rfl rfl)
theorem dX13_kind_90 : decode cX13_kind 90 = .ok (.getfield 26, 3) := dk_180 0 26 (dk_at dksX13_kind_3 20 rfl rfl)
theorem dX13_kind_93 : decode cX13_kind 93 = .ok (.aload_n 0, 1) := dk_42 (dk_at dksX13_kind_3 23 rfl rfl)
theorem dX13_kind_94 : decode cX13_kind 94 = .ok (.getfield 36, 3) := dk_180 0 36 (dk_at dksX13_kind_4 0 rfl rfl)
theorem dX13_kind_97 : decode cX13_kind 97 = .ok (.iload_n 3, 1) := dk_29 (dk_at dksX13_kind_4 3 rfl rfl)
theorem dX13_kind_98 : decode cX13_kind 98 = .ok (.iastore, 1) := dk_79 (dk_at dksX13_kind_4 4 rfl rfl)
theorem dX13_kind_99 : decode cX13_kind 99 = .ok (.getstatic 51, 3) := dk_178 0 51 (dk_at dksX13_kind_4 5 rfl rfl)
theorem dX13_kind_102 : decode cX13_kind 102 = .ok (.areturn, 1) := dk_176 (dk_at dksX13_kind_4 8 rfl rfl)
theorem dX13_kind_103 : decode cX13_kind 103 = .ok (.getstatic 55, 3) := dk_178 0 55 (dk_at dksX13_kind_4 9 rfl rfl)
theorem dX13_kind_106 : decode cX13_kind 106 = .ok (.astore 5, 2) := dk_58 5 (dk_at dksX13_kind_4 12 rfl rfl)
theorem dX13_kind_108 : decode cX13_kind 108 = .ok (.iconst 0, 1) := dk_3 (dk_at dksX13_kind_4 14 rfl rfl)
theorem dX13_kind_109 : decode cX13_kind 109 = .ok (.istore 6, 2) := dk_54 6 (dk_at dksX13_kind_4 15 rfl rfl)
theorem dX13_kind_111 : decode cX13_kind 111 = .ok (.iload 6, 2) := dk_21 6 (dk_at dksX13_kind_4 17 rfl rfl)
theorem dX13_kind_113 : decode cX13_kind 113 = .ok (.aload_n 0, 1) := dk_42 (dk_at dksX13_kind_4 19 rfl rfl)
theorem dX13_kind_114 : decode cX13_kind 114 = .ok (.getfield 33, 3) := dk_180 0 33 (dk_at dksX13_kind_4 20 rfl rfl)
theorem dX13_kind_117 : decode cX13_kind 117 = .ok (.arraylength, 1) := dk_190 (dk_at dksX13_kind_4 23 rfl rfl)
theorem dX13_kind_118 : decode cX13_kind 118 = .ok (.if_icmp .ge 50, 3) := dk_162 0 50 (dk_at dksX13_kind_5 0 rfl rfl)
theorem dX13_kind_121 : decode cX13_kind 121 = .ok (.aload 5, 2) := dk_25 5 (dk_at dksX13_kind_5 3 rfl rfl)
theorem dX13_kind_123 : decode cX13_kind 123 = .ok (.getstatic 55, 3) := dk_178 0 55 (dk_at dksX13_kind_5 5 rfl rfl)
theorem dX13_kind_126 : decode cX13_kind 126 = .ok (.if_acmp .ne 42, 3) := dk_166 0 42 (dk_at dksX13_kind_5 8 rfl rfl)
theorem dX13_kind_129 : decode cX13_kind 129 = .ok (.aload_n 0, 1) := dk_42 (dk_at dksX13_kind_5 11 rfl rfl)
theorem dX13_kind_130 : decode cX13_kind 130 = .ok (.getfield 33, 3) := dk_180 0 33 (dk_at dksX13_kind_5 12 rfl rfl)
theorem dX13_kind_133 : decode cX13_kind 133 = .ok (.iload 6, 2) := dk_21 6 (dk_at dksX13_kind_5 15 rfl rfl)
theorem dX13_kind_135 : decode cX13_kind 135 = .ok (.aaload, 1) := dk_50 (dk_at dksX13_kind_5 17 rfl rfl)
theorem dX13_kind_136 : decode cX13_kind 136 = .ok (.aload_n 0, 1) := dk_42 (dk_at dksX13_kind_5 18 rfl rfl)
theorem dX13_kind_137 : decode cX13_kind 137 = .ok (.getfield 7, 3) := dk_180 0 7 (dk_at dksX13_kind_5 19 rfl rfl)
theorem dX13_kind_140 : decode cX13_kind 140 = .ok (.iload_n 1, 1) := dk_27 (dk_at dksX13_kind_5 22 rfl rfl)
theorem dX13_kind_141 : decode cX13_kind 141 = .ok (.iload_n 2, 1) := dk_28 (dk_at dksX13_kind_5 23 rfl rfl)
theorem dX13_kind_142 : decode cX13_kind 142 = .ok (.invokevirtual 58, 3) := dk_182 0 58 (dk_at dksX13_kind_6 0 rfl rfl)
theorem dX13_kind_145 : decode cX13_kind 145 = .ok (.ifCond .eq 13, 3) := dk_153 0 13 (dk_at dksX13_kind_6 3 rfl rfl)
theorem dX13_kind_148 : decode cX13_kind 148 = .ok (.aload_n 0, 1) := dk_42 (dk_at dksX13_kind_6 6 rfl rfl)
theorem dX13_kind_149 : decode cX13_kind 149 = .ok (.getfield 33, 3) := dk_180 0 33 (dk_at dksX13_kind_6 7 rfl rfl)
theorem dX13_kind_152 : decode cX13_kind 152 = .ok (.iload 6, 2) := dk_21 6 (dk_at dksX13_kind_6 10 rfl rfl)
theorem dX13_kind_154 : decode cX13_kind 154 = .ok (.aaload, 1) := dk_50 (dk_at dksX13_kind_6 12 rfl rfl)
theorem dX13_kind_155 : decode cX13_kind 155 = .ok (.goto 5, 3) := dk_167 0 5 (dk_at dksX13_kind_6 13 rfl rfl)
theorem dX13_kind_158 : decode cX13_kind 158 = .ok (.aload 5, 2) := dk_25 5 (dk_at dksX13_kind_6 16 rfl rfl)
theorem dX13_kind_160 : decode cX13_kind 160 = .ok (.astore 5, 2) := dk_58 5 (dk_at dksX13_kind_6 18 rfl rfl)
theorem dX13_kind_162 : decode cX13_kind 162 = .ok (.iinc 6 1, 3) := dk_132 6 1 (dk_at dksX13_kind_6 20 rfl rfl)
theorem dX13_kind_165 : decode cX13_kind 165 = .ok (.goto (-54), 3) := dk_167 255 202 (dk_at dksX13_kind_7 0 rfl rfl)
theorem dX13_kind_168 : decode cX13_kind 168 = .ok (.aload 5, 2) := dk_25 5 (dk_at dksX13_kind_7 3 rfl rfl)
theorem dX13_kind_170 : decode cX13_kind 170 = .ok (.areturn, 1) := dk_176 (dk_at dksX13_kind_7 5 rfl rfl)
abbrev cX13_is : ByteArray := prog_23_method_5_code
def yX13_is : MethodName := ⟨RX13, "is", "(ILWasteHouse$HazardRules$Word;)Z"⟩
def dkwX13_is_0 : List UInt8 := [27, 42, 180, 0, 36, 162, 0, 17, 42, 180, 0, 22, 27, 50, 44, 166, 0, 7, 4, 167, 0, 4, 3, 172]
abbrev dktX13_is_0 : List UInt8 := dkwX13_is_0 ++ []
theorem dksX13_is_0 : cX13_is.data.toList.drop 0 = dktX13_is_0 := by decide +kernel
theorem dX13_is_0 : decode cX13_is 0 = .ok (.iload_n 1, 1) := dk_27 (dk_at dksX13_is_0 0 rfl rfl)
theorem dX13_is_1 : decode cX13_is 1 = .ok (.aload_n 0, 1) := dk_42 (dk_at dksX13_is_0 1 rfl rfl)
theorem dX13_is_2 : decode cX13_is 2 = .ok (.getfield 36, 3) := dk_180 0 36 (dk_at dksX13_is_0 2 rfl rfl)
theorem dX13_is_5 : decode cX13_is 5 = .ok (.if_icmp .ge 17, 3) := dk_162 0 17 (dk_at dksX13_is_0 5 rfl rfl)
theorem dX13_is_8 : decode cX13_is 8 = .ok (.aload_n 0, 1) := dk_42 (dk_at dksX13_is_0 8 rfl rfl)
theorem dX13_is_9 : decode cX13_is 9 = .ok (.getfield 22, 3) := dk_180 0 22 (dk_at dksX13_is_0 9 rfl rfl)
theorem dX13_is_12 : decode cX13_is 12 = .ok (.iload_n 1, 1) := dk_27 (dk_at dksX13_is_0 12 rfl rfl)
theorem dX13_is_13 : decode cX13_is 13 = .ok (.aaload, 1) := dk_50 (dk_at dksX13_is_0 13 rfl rfl)
theorem dX13_is_14 : decode cX13_is 14 = .ok (.aload_n 2, 1) := dk_44 (dk_at dksX13_is_0 14 rfl rfl)
theorem dX13_is_15 : decode cX13_is 15 = .ok (.if_acmp .ne 7, 3) := dk_166 0 7 (dk_at dksX13_is_0 15 rfl rfl)
theorem dX13_is_18 : decode cX13_is 18 = .ok (.iconst 1, 1) := dk_4 (dk_at dksX13_is_0 18 rfl rfl)
theorem dX13_is_19 : decode cX13_is 19 = .ok (.goto 4, 3) := dk_167 0 4 (dk_at dksX13_is_0 19 rfl rfl)
theorem dX13_is_22 : decode cX13_is 22 = .ok (.iconst 0, 1) := dk_3 (dk_at dksX13_is_0 22 rfl rfl)
theorem dX13_is_23 : decode cX13_is 23 = .ok (.ireturn, 1) := dk_172 (dk_at dksX13_is_0 23 rfl rfl)
abbrev cX13_isNumber : ByteArray := prog_23_method_6_code
def yX13_isNumber : MethodName := ⟨RX13, "isNumber", "(II)Z"⟩
def dkwX13_isNumber_1 : List UInt8 := [167, 0, 4, 3, 172]
abbrev dktX13_isNumber_1 : List UInt8 := dkwX13_isNumber_1 ++ []
def dkwX13_isNumber_0 : List UInt8 := [42, 27, 178, 0, 51, 182, 0, 62, 153, 0, 17, 42, 180, 0, 26, 27, 46, 28, 163, 0, 7, 4]
abbrev dktX13_isNumber_0 : List UInt8 := dkwX13_isNumber_0 ++ dktX13_isNumber_1
theorem dksX13_isNumber_0 : cX13_isNumber.data.toList.drop 0 = dktX13_isNumber_0 := by decide +kernel
theorem dksX13_isNumber_1 : cX13_isNumber.data.toList.drop 22 = dktX13_isNumber_1 := dk_seg dksX13_isNumber_0 22 rfl rfl
theorem dX13_isNumber_0 : decode cX13_isNumber 0 = .ok (.aload_n 0, 1) := dk_42 (dk_at dksX13_isNumber_0 0 rfl rfl)
theorem dX13_isNumber_1 : decode cX13_isNumber 1 = .ok (.iload_n 1, 1) := dk_27 (dk_at dksX13_isNumber_0 1 rfl rfl)
theorem dX13_isNumber_2 : decode cX13_isNumber 2 = .ok (.getstatic 51, 3) := dk_178 0 51 (dk_at dksX13_isNumber_0 2 rfl rfl)
theorem dX13_isNumber_5 : decode cX13_isNumber 5 = .ok (.invokevirtual 62, 3) := dk_182 0 62 (dk_at dksX13_isNumber_0 5 rfl rfl)
theorem dX13_isNumber_8 : decode cX13_isNumber 8 = .ok (.ifCond .eq 17, 3) := dk_153 0 17 (dk_at dksX13_isNumber_0 8 rfl rfl)
theorem dX13_isNumber_11 : decode cX13_isNumber 11 = .ok (.aload_n 0, 1) := dk_42 (dk_at dksX13_isNumber_0 11 rfl rfl)
theorem dX13_isNumber_12 : decode cX13_isNumber 12 = .ok (.getfield 26, 3) := dk_180 0 26 (dk_at dksX13_isNumber_0 12 rfl rfl)
theorem dX13_isNumber_15 : decode cX13_isNumber 15 = .ok (.iload_n 1, 1) := dk_27 (dk_at dksX13_isNumber_0 15 rfl rfl)
theorem dX13_isNumber_16 : decode cX13_isNumber 16 = .ok (.iaload, 1) := dk_46 (dk_at dksX13_isNumber_0 16 rfl rfl)
theorem dX13_isNumber_17 : decode cX13_isNumber 17 = .ok (.iload_n 2, 1) := dk_28 (dk_at dksX13_isNumber_0 17 rfl rfl)
theorem dX13_isNumber_18 : decode cX13_isNumber 18 = .ok (.if_icmp .gt 7, 3) := dk_163 0 7 (dk_at dksX13_isNumber_0 18 rfl rfl)
theorem dX13_isNumber_21 : decode cX13_isNumber 21 = .ok (.iconst 1, 1) := dk_4 (dk_at dksX13_isNumber_0 21 rfl rfl)
theorem dX13_isNumber_22 : decode cX13_isNumber 22 = .ok (.goto 4, 3) := dk_167 0 4 (dk_at dksX13_isNumber_1 0 rfl rfl)
theorem dX13_isNumber_25 : decode cX13_isNumber 25 = .ok (.iconst 0, 1) := dk_3 (dk_at dksX13_isNumber_1 3 rfl rfl)
theorem dX13_isNumber_26 : decode cX13_isNumber 26 = .ok (.ireturn, 1) := dk_172 (dk_at dksX13_isNumber_1 4 rfl rfl)
abbrev cX13_copy : ByteArray := prog_23_method_7_code
def yX13_copy : MethodName := ⟨RX13, "copy", "(LWasteHouse$HazardRules$Words;)V"⟩
def dkwX13_copy_4 : List UInt8 := [180, 0, 26, 3, 42, 180, 0, 36, 184, 0, 66, 177]
abbrev dktX13_copy_4 : List UInt8 := dkwX13_copy_4 ++ []
def dkwX13_copy_3 : List UInt8 := [180, 0, 22, 3, 42, 180, 0, 22, 3, 42, 180, 0, 36, 184, 0, 66, 43, 180, 0, 26, 3, 42]
abbrev dktX13_copy_3 : List UInt8 := dkwX13_copy_3 ++ dktX13_copy_4
def dkwX13_copy_2 : List UInt8 := [180, 0, 36, 184, 0, 66, 43, 180, 0, 17, 3, 42, 180, 0, 17, 3, 42, 180, 0, 36, 184, 0, 66, 43]
abbrev dktX13_copy_2 : List UInt8 := dkwX13_copy_2 ++ dktX13_copy_3
def dkwX13_copy_1 : List UInt8 := [180, 0, 7, 3, 42, 180, 0, 40, 184, 0, 66, 43, 180, 0, 13, 3, 42, 180, 0, 13, 3, 42]
abbrev dktX13_copy_1 : List UInt8 := dkwX13_copy_1 ++ dktX13_copy_2
def dkwX13_copy_0 : List UInt8 := [42, 43, 180, 0, 40, 181, 0, 40, 42, 43, 180, 0, 36, 181, 0, 36, 43, 180, 0, 7, 3, 42]
abbrev dktX13_copy_0 : List UInt8 := dkwX13_copy_0 ++ dktX13_copy_1
theorem dksX13_copy_0 : cX13_copy.data.toList.drop 0 = dktX13_copy_0 := by decide +kernel
theorem dksX13_copy_1 : cX13_copy.data.toList.drop 22 = dktX13_copy_1 := dk_seg dksX13_copy_0 22 rfl rfl
theorem dksX13_copy_2 : cX13_copy.data.toList.drop 44 = dktX13_copy_2 := dk_seg dksX13_copy_1 22 rfl rfl
theorem dksX13_copy_3 : cX13_copy.data.toList.drop 68 = dktX13_copy_3 := dk_seg dksX13_copy_2 24 rfl rfl
theorem dksX13_copy_4 : cX13_copy.data.toList.drop 90 = dktX13_copy_4 := dk_seg dksX13_copy_3 22 rfl rfl
theorem dX13_copy_0 : decode cX13_copy 0 = .ok (.aload_n 0, 1) := dk_42 (dk_at dksX13_copy_0 0 rfl rfl)
theorem dX13_copy_1 : decode cX13_copy 1 = .ok (.aload_n 1, 1) := dk_43 (dk_at dksX13_copy_0 1 rfl rfl)
theorem dX13_copy_2 : decode cX13_copy 2 = .ok (.getfield 40, 3) := dk_180 0 40 (dk_at dksX13_copy_0 2 rfl rfl)
theorem dX13_copy_5 : decode cX13_copy 5 = .ok (.putfield 40, 3) := dk_181 0 40 (dk_at dksX13_copy_0 5 rfl rfl)
theorem dX13_copy_8 : decode cX13_copy 8 = .ok (.aload_n 0, 1) := dk_42 (dk_at dksX13_copy_0 8 rfl rfl)
theorem dX13_copy_9 : decode cX13_copy 9 = .ok (.aload_n 1, 1) := dk_43 (dk_at dksX13_copy_0 9 rfl rfl)
theorem dX13_copy_10 : decode cX13_copy 10 = .ok (.getfield 36, 3) := dk_180 0 36 (dk_at dksX13_copy_0 10 rfl rfl)
theorem dX13_copy_13 : decode cX13_copy 13 = .ok (.putfield 36, 3) := dk_181 0 36 (dk_at dksX13_copy_0 13 rfl rfl)
theorem dX13_copy_16 : decode cX13_copy 16 = .ok (.aload_n 1, 1) := dk_43 (dk_at dksX13_copy_0 16 rfl rfl)
theorem dX13_copy_17 : decode cX13_copy 17 = .ok (.getfield 7, 3) := dk_180 0 7 (dk_at dksX13_copy_0 17 rfl rfl)
theorem dX13_copy_20 : decode cX13_copy 20 = .ok (.iconst 0, 1) := dk_3 (dk_at dksX13_copy_0 20 rfl rfl)
theorem dX13_copy_21 : decode cX13_copy 21 = .ok (.aload_n 0, 1) := dk_42 (dk_at dksX13_copy_0 21 rfl rfl)
theorem dX13_copy_22 : decode cX13_copy 22 = .ok (.getfield 7, 3) := dk_180 0 7 (dk_at dksX13_copy_1 0 rfl rfl)
theorem dX13_copy_25 : decode cX13_copy 25 = .ok (.iconst 0, 1) := dk_3 (dk_at dksX13_copy_1 3 rfl rfl)
theorem dX13_copy_26 : decode cX13_copy 26 = .ok (.aload_n 0, 1) := dk_42 (dk_at dksX13_copy_1 4 rfl rfl)
theorem dX13_copy_27 : decode cX13_copy 27 = .ok (.getfield 40, 3) := dk_180 0 40 (dk_at dksX13_copy_1 5 rfl rfl)
theorem dX13_copy_30 : decode cX13_copy 30 = .ok (.invokestatic 66, 3) := dk_184 0 66 (dk_at dksX13_copy_1 8 rfl rfl)
theorem dX13_copy_33 : decode cX13_copy 33 = .ok (.aload_n 1, 1) := dk_43 (dk_at dksX13_copy_1 11 rfl rfl)
theorem dX13_copy_34 : decode cX13_copy 34 = .ok (.getfield 13, 3) := dk_180 0 13 (dk_at dksX13_copy_1 12 rfl rfl)
theorem dX13_copy_37 : decode cX13_copy 37 = .ok (.iconst 0, 1) := dk_3 (dk_at dksX13_copy_1 15 rfl rfl)
theorem dX13_copy_38 : decode cX13_copy 38 = .ok (.aload_n 0, 1) := dk_42 (dk_at dksX13_copy_1 16 rfl rfl)
theorem dX13_copy_39 : decode cX13_copy 39 = .ok (.getfield 13, 3) := dk_180 0 13 (dk_at dksX13_copy_1 17 rfl rfl)
theorem dX13_copy_42 : decode cX13_copy 42 = .ok (.iconst 0, 1) := dk_3 (dk_at dksX13_copy_1 20 rfl rfl)
theorem dX13_copy_43 : decode cX13_copy 43 = .ok (.aload_n 0, 1) := dk_42 (dk_at dksX13_copy_1 21 rfl rfl)
theorem dX13_copy_44 : decode cX13_copy 44 = .ok (.getfield 36, 3) := dk_180 0 36 (dk_at dksX13_copy_2 0 rfl rfl)
theorem dX13_copy_47 : decode cX13_copy 47 = .ok (.invokestatic 66, 3) := dk_184 0 66 (dk_at dksX13_copy_2 3 rfl rfl)
theorem dX13_copy_50 : decode cX13_copy 50 = .ok (.aload_n 1, 1) := dk_43 (dk_at dksX13_copy_2 6 rfl rfl)
theorem dX13_copy_51 : decode cX13_copy 51 = .ok (.getfield 17, 3) := dk_180 0 17 (dk_at dksX13_copy_2 7 rfl rfl)
theorem dX13_copy_54 : decode cX13_copy 54 = .ok (.iconst 0, 1) := dk_3 (dk_at dksX13_copy_2 10 rfl rfl)
theorem dX13_copy_55 : decode cX13_copy 55 = .ok (.aload_n 0, 1) := dk_42 (dk_at dksX13_copy_2 11 rfl rfl)
theorem dX13_copy_56 : decode cX13_copy 56 = .ok (.getfield 17, 3) := dk_180 0 17 (dk_at dksX13_copy_2 12 rfl rfl)
theorem dX13_copy_59 : decode cX13_copy 59 = .ok (.iconst 0, 1) := dk_3 (dk_at dksX13_copy_2 15 rfl rfl)
theorem dX13_copy_60 : decode cX13_copy 60 = .ok (.aload_n 0, 1) := dk_42 (dk_at dksX13_copy_2 16 rfl rfl)
theorem dX13_copy_61 : decode cX13_copy 61 = .ok (.getfield 36, 3) := dk_180 0 36 (dk_at dksX13_copy_2 17 rfl rfl)
theorem dX13_copy_64 : decode cX13_copy 64 = .ok (.invokestatic 66, 3) := dk_184 0 66 (dk_at dksX13_copy_2 20 rfl rfl)
theorem dX13_copy_67 : decode cX13_copy 67 = .ok (.aload_n 1, 1) := dk_43 (dk_at dksX13_copy_2 23 rfl rfl)
theorem dX13_copy_68 : decode cX13_copy 68 = .ok (.getfield 22, 3) := dk_180 0 22 (dk_at dksX13_copy_3 0 rfl rfl)
theorem dX13_copy_71 : decode cX13_copy 71 = .ok (.iconst 0, 1) := dk_3 (dk_at dksX13_copy_3 3 rfl rfl)
theorem dX13_copy_72 : decode cX13_copy 72 = .ok (.aload_n 0, 1) := dk_42 (dk_at dksX13_copy_3 4 rfl rfl)
theorem dX13_copy_73 : decode cX13_copy 73 = .ok (.getfield 22, 3) := dk_180 0 22 (dk_at dksX13_copy_3 5 rfl rfl)
theorem dX13_copy_76 : decode cX13_copy 76 = .ok (.iconst 0, 1) := dk_3 (dk_at dksX13_copy_3 8 rfl rfl)
theorem dX13_copy_77 : decode cX13_copy 77 = .ok (.aload_n 0, 1) := dk_42 (dk_at dksX13_copy_3 9 rfl rfl)
theorem dX13_copy_78 : decode cX13_copy 78 = .ok (.getfield 36, 3) := dk_180 0 36 (dk_at dksX13_copy_3 10 rfl rfl)
theorem dX13_copy_81 : decode cX13_copy 81 = .ok (.invokestatic 66, 3) := dk_184 0 66 (dk_at dksX13_copy_3 13 rfl rfl)
theorem dX13_copy_84 : decode cX13_copy 84 = .ok (.aload_n 1, 1) := dk_43 (dk_at dksX13_copy_3 16 rfl rfl)
theorem dX13_copy_85 : decode cX13_copy 85 = .ok (.getfield 26, 3) := dk_180 0 26 (dk_at dksX13_copy_3 17 rfl rfl)
theorem dX13_copy_88 : decode cX13_copy 88 = .ok (.iconst 0, 1) := dk_3 (dk_at dksX13_copy_3 20 rfl rfl)
theorem dX13_copy_89 : decode cX13_copy 89 = .ok (.aload_n 0, 1) := dk_42 (dk_at dksX13_copy_3 21 rfl rfl)
theorem dX13_copy_90 : decode cX13_copy 90 = .ok (.getfield 26, 3) := dk_180 0 26 (dk_at dksX13_copy_4 0 rfl rfl)
theorem dX13_copy_93 : decode cX13_copy 93 = .ok (.iconst 0, 1) := dk_3 (dk_at dksX13_copy_4 3 rfl rfl)
theorem dX13_copy_94 : decode cX13_copy 94 = .ok (.aload_n 0, 1) := dk_42 (dk_at dksX13_copy_4 4 rfl rfl)
theorem dX13_copy_95 : decode cX13_copy 95 = .ok (.getfield 36, 3) := dk_180 0 36 (dk_at dksX13_copy_4 5 rfl rfl)
theorem dX13_copy_98 : decode cX13_copy 98 = .ok (.invokestatic 66, 3) := dk_184 0 66 (dk_at dksX13_copy_4 8 rfl rfl)
theorem dX13_copy_101 : decode cX13_copy 101 = .ok (.return_, 1) := dk_177 (dk_at dksX13_copy_4 11 rfl rfl)
theorem q411 : (Jvm.Cond.initialized "WasteHouse$HazardRules$Words") ∈ lw_all := lw_g (lw_at lw_m1 19 rfl) rfl
theorem q922 : (Jvm.Cond.instantiable "WasteHouse$HazardRules$Words" (8 : Nat)) ∈ lw_all := lw_g (lw_at lw_m3 50 rfl) rfl
theorem q924 : (Jvm.Cond.instanceMethod ({ cls := "WasteHouse$HazardRules$Words", name := "<init>", desc := "()V" } : Jvm.MethodName)) ∈ lw_all := lw_g (lw_at lw_m3 52 rfl) rfl
theorem q925 : (Jvm.Cond.code ({ cls := "WasteHouse$HazardRules$Words", name := "<init>", desc := "()V" } : Jvm.MethodName) prog_23_method_1_code (1 : Nat) (Option.none : Option Jvm.ClassFile.FieldType)) ∈ lw_all := lw_g (lw_at lw_m3 53 rfl) rfl
theorem q926 : (Jvm.Cond.methodLink "WasteHouse$HazardRules$Words" (1 : Nat) ({ cls := "java/lang/Object", name := "<init>", desc := "()V" } : Jvm.MethodName)) ∈ lw_all := lw_g (lw_at lw_m3 54 rfl) rfl
theorem q927 : (Jvm.Cond.classLink "WasteHouse$HazardRules$Words" (20 : Nat) "WasteHouse$HazardRules$Word") ∈ lw_all := lw_g (lw_at lw_m3 55 rfl) rfl
theorem q929 : (Jvm.Cond.methodLink "WasteHouse$HazardRules$Words" (29 : Nat) ({ cls := "WasteHouse$HazardRules$Word", name := "values", desc := "()[LWasteHouse$HazardRules$Word;" } : Jvm.MethodName)) ∈ lw_all := lw_g (lw_at lw_m3 57 rfl) rfl
theorem q941 : (Jvm.Cond.fieldLink "WasteHouse$HazardRules$Words" (7 : Nat) "WasteHouse$HazardRules$Words" "bytes" "[B") ∈ lw_all := lw_g (lw_at lw_m3 69 rfl) rfl
theorem q944 : (Jvm.Cond.fieldLink "WasteHouse$HazardRules$Words" (40 : Nat) "WasteHouse$HazardRules$Words" "size" "I") ∈ lw_all := lw_g (lw_at lw_m3 72 rfl) rfl
theorem q945 : (Jvm.Cond.fieldLink "WasteHouse$HazardRules$Words" (13 : Nat) "WasteHouse$HazardRules$Words" "froms" "[I") ∈ lw_all := lw_g (lw_at lw_m3 73 rfl) rfl
theorem q947 : (Jvm.Cond.fieldLink "WasteHouse$HazardRules$Words" (17 : Nat) "WasteHouse$HazardRules$Words" "tos" "[I") ∈ lw_all := lw_g (lw_at lw_m3 75 rfl) rfl
theorem q949 : (Jvm.Cond.fieldLink "WasteHouse$HazardRules$Words" (22 : Nat) "WasteHouse$HazardRules$Words" "words" "[LWasteHouse$HazardRules$Word;") ∈ lw_all := lw_g (lw_at lw_m3 77 rfl) rfl
theorem q951 : (Jvm.Cond.fieldLink "WasteHouse$HazardRules$Words" (26 : Nat) "WasteHouse$HazardRules$Words" "numbers" "[I") ∈ lw_all := lw_g (lw_at lw_m3 79 rfl) rfl
theorem q955 : (Jvm.Cond.fieldLink "WasteHouse$HazardRules$Words" (36 : Nat) "WasteHouse$HazardRules$Words" "count" "I") ∈ lw_all := lw_g (lw_at lw_m3 83 rfl) rfl
theorem q957 : (Jvm.Cond.fieldLink "WasteHouse$HazardRules$Words" (33 : Nat) "WasteHouse$HazardRules$Words" "all" "[LWasteHouse$HazardRules$Word;") ∈ lw_all := lw_g (lw_at lw_m3 85 rfl) rfl
theorem q958 : (Jvm.Cond.laysFinal "WasteHouse$HazardRules$Words" "WasteHouse$HazardRules$Words" "bytes" "[B") ∈ lw_all := lw_g (lw_at lw_m3 86 rfl) rfl
theorem q959 : (Jvm.Cond.soleField "WasteHouse$HazardRules$Words" "bytes") ∈ lw_all := lw_g (lw_at lw_m3 87 rfl) rfl
theorem q960 : (Jvm.Cond.lays "WasteHouse$HazardRules$Words" "WasteHouse$HazardRules$Words" "size" "I") ∈ lw_all := lw_g (lw_at lw_m3 88 rfl) rfl
theorem q961 : (Jvm.Cond.soleField "WasteHouse$HazardRules$Words" "size") ∈ lw_all := lw_g (lw_at lw_m3 89 rfl) rfl
theorem q962 : (Jvm.Cond.laysFinal "WasteHouse$HazardRules$Words" "WasteHouse$HazardRules$Words" "froms" "[I") ∈ lw_all := lw_g (lw_at lw_m3 90 rfl) rfl
theorem q963 : (Jvm.Cond.soleField "WasteHouse$HazardRules$Words" "froms") ∈ lw_all := lw_g (lw_at lw_m3 91 rfl) rfl
theorem q964 : (Jvm.Cond.laysFinal "WasteHouse$HazardRules$Words" "WasteHouse$HazardRules$Words" "tos" "[I") ∈ lw_all := lw_g (lw_at lw_m3 92 rfl) rfl
theorem q965 : (Jvm.Cond.soleField "WasteHouse$HazardRules$Words" "tos") ∈ lw_all := lw_g (lw_at lw_m3 93 rfl) rfl
theorem q966 : (Jvm.Cond.laysFinal "WasteHouse$HazardRules$Words" "WasteHouse$HazardRules$Words" "words" "[LWasteHouse$HazardRules$Word;") ∈ lw_all := lw_g (lw_at lw_m3 94 rfl) rfl
theorem q967 : (Jvm.Cond.soleField "WasteHouse$HazardRules$Words" "words") ∈ lw_all := lw_g (lw_at lw_m3 95 rfl) rfl
theorem q968 : (Jvm.Cond.laysFinal "WasteHouse$HazardRules$Words" "WasteHouse$HazardRules$Words" "numbers" "[I") ∈ lw_all := lw_g (lw_at lw_m3 96 rfl) rfl
theorem q969 : (Jvm.Cond.soleField "WasteHouse$HazardRules$Words" "numbers") ∈ lw_all := lw_g (lw_at lw_m3 97 rfl) rfl
theorem q970 : (Jvm.Cond.lays "WasteHouse$HazardRules$Words" "WasteHouse$HazardRules$Words" "count" "I") ∈ lw_all := lw_g (lw_at lw_m3 98 rfl) rfl
theorem q971 : (Jvm.Cond.soleField "WasteHouse$HazardRules$Words" "count") ∈ lw_all := lw_g (lw_at lw_m3 99 rfl) rfl
theorem q972 : (Jvm.Cond.laysFinal "WasteHouse$HazardRules$Words" "WasteHouse$HazardRules$Words" "all" "[LWasteHouse$HazardRules$Word;") ∈ lw_all := lw_g (lw_at lw_m3 100 rfl) rfl
theorem q973 : (Jvm.Cond.soleField "WasteHouse$HazardRules$Words" "all") ∈ lw_all := lw_g (lw_at lw_m3 101 rfl) rfl
theorem q974 : (Jvm.Cond.superclass "WasteHouse$HazardRules$Words" "java/lang/Object") ∈ lw_all := lw_g (lw_at lw_m3 102 rfl) rfl
theorem q1993 : (Jvm.Cond.selects "WasteHouse$HazardRules$Words" ({ cls := "java/lang/Object", name := "getClass", desc := "()Ljava/lang/Class;" } : Jvm.MethodName) ({ cls := "java/lang/Object", name := "getClass", desc := "()Ljava/lang/Class;" } : Jvm.MethodName)) ∈ lw_all := lw_g (lw_at lw_m7 161 rfl) rfl
theorem q3103 : (Jvm.Cond.selects "WasteHouse$HazardRules$Words" ({ cls := "java/lang/Object", name := "equals", desc := "(Ljava/lang/Object;)Z" } : Jvm.MethodName) ({ cls := "java/lang/Object", name := "equals", desc := "(Ljava/lang/Object;)Z" } : Jvm.MethodName)) ∈ lw_all := lw_g (lw_at lw_m12 71 rfl) rfl
theorem q3621 : (Jvm.Cond.selects "WasteHouse$HazardRules$Words" ({ cls := "java/lang/Object", name := "hashCode", desc := "()I" } : Jvm.MethodName) ({ cls := "java/lang/Object", name := "hashCode", desc := "()I" } : Jvm.MethodName)) ∈ lw_all := lw_g (lw_at lw_m14 109 rfl) rfl
theorem q4779 : (Jvm.Cond.instanceMethod ({ cls := "WasteHouse$HazardRules$Words", name := "split", desc := "()V" } : Jvm.MethodName)) ∈ lw_all := lw_g (lw_at lw_m19 67 rfl) rfl
theorem q4780 : (Jvm.Cond.selects "WasteHouse$HazardRules$Words" ({ cls := "WasteHouse$HazardRules$Words", name := "split", desc := "()V" } : Jvm.MethodName) ({ cls := "WasteHouse$HazardRules$Words", name := "split", desc := "()V" } : Jvm.MethodName)) ∈ lw_all := lw_g (lw_at lw_m19 68 rfl) rfl
theorem q4781 : (Jvm.Cond.code ({ cls := "WasteHouse$HazardRules$Words", name := "split", desc := "()V" } : Jvm.MethodName) prog_23_method_3_code (3 : Nat) (Option.none : Option Jvm.ClassFile.FieldType)) ∈ lw_all := lw_g (lw_at lw_m19 69 rfl) rfl
theorem q4782 : (Jvm.Cond.methodLink "WasteHouse$HazardRules$Words" (43 : Nat) ({ cls := "WasteHouse$HazardRules$Words", name := "isBlank", desc := "(I)Z" } : Jvm.MethodName)) ∈ lw_all := lw_g (lw_at lw_m19 70 rfl) rfl
theorem q4783 : (Jvm.Cond.static ({ cls := "WasteHouse$HazardRules$Words", name := "isBlank", desc := "(I)Z" } : Jvm.MethodName)) ∈ lw_all := lw_g (lw_at lw_m19 71 rfl) rfl
theorem q4784 : (Jvm.Cond.code ({ cls := "WasteHouse$HazardRules$Words", name := "isBlank", desc := "(I)Z" } : Jvm.MethodName) prog_23_method_2_code (1 : Nat) (Option.some Jvm.ClassFile.FieldType.boolean)) ∈ lw_all := lw_g (lw_at lw_m19 72 rfl) rfl
theorem q4785 : (Jvm.Cond.methodLink "WasteHouse$HazardRules$Words" (47 : Nat) ({ cls := "WasteHouse$HazardRules$Words", name := "kind", desc := "(II)LWasteHouse$HazardRules$Word;" } : Jvm.MethodName)) ∈ lw_all := lw_g (lw_at lw_m19 73 rfl) rfl
theorem q4786 : (Jvm.Cond.privateMethod ({ cls := "WasteHouse$HazardRules$Words", name := "kind", desc := "(II)LWasteHouse$HazardRules$Word;" } : Jvm.MethodName)) ∈ lw_tbl := lw_at lw_m19 74 rfl
theorem q4787 : (Jvm.Cond.instanceMethod ({ cls := "WasteHouse$HazardRules$Words", name := "kind", desc := "(II)LWasteHouse$HazardRules$Word;" } : Jvm.MethodName)) ∈ lw_all := lw_g (lw_at lw_m19 75 rfl) rfl
theorem q4788 : (Jvm.Cond.code ({ cls := "WasteHouse$HazardRules$Words", name := "kind", desc := "(II)LWasteHouse$HazardRules$Word;" } : Jvm.MethodName) prog_23_method_4_code (7 : Nat) (Option.some (Jvm.ClassFile.FieldType.object "WasteHouse$HazardRules$Word"))) ∈ lw_all := lw_g (lw_at lw_m19 76 rfl) rfl
theorem q4789 : (Jvm.Cond.fieldLink "WasteHouse$HazardRules$Words" (51 : Nat) "WasteHouse$HazardRules$Word" "NUMBER" "LWasteHouse$HazardRules$Word;") ∈ lw_all := lw_g (lw_at lw_m19 77 rfl) rfl
theorem q4791 : (Jvm.Cond.fieldLink "WasteHouse$HazardRules$Words" (55 : Nat) "WasteHouse$HazardRules$Word" "OTHER" "LWasteHouse$HazardRules$Word;") ∈ lw_all := lw_g (lw_at lw_m19 79 rfl) rfl
theorem q4793 : (Jvm.Cond.methodLink "WasteHouse$HazardRules$Words" (58 : Nat) ({ cls := "WasteHouse$HazardRules$Word", name := "isAt", desc := "([BII)Z" } : Jvm.MethodName)) ∈ lw_all := lw_g (lw_at lw_m19 81 rfl) rfl
theorem q4818 : (Jvm.Cond.instanceMethod ({ cls := "WasteHouse$HazardRules$Words", name := "is", desc := "(ILWasteHouse$HazardRules$Word;)Z" } : Jvm.MethodName)) ∈ lw_all := lw_g (lw_at lw_m19 106 rfl) rfl
theorem q4819 : (Jvm.Cond.selects "WasteHouse$HazardRules$Words" ({ cls := "WasteHouse$HazardRules$Words", name := "is", desc := "(ILWasteHouse$HazardRules$Word;)Z" } : Jvm.MethodName) ({ cls := "WasteHouse$HazardRules$Words", name := "is", desc := "(ILWasteHouse$HazardRules$Word;)Z" } : Jvm.MethodName)) ∈ lw_all := lw_g (lw_at lw_m19 107 rfl) rfl
theorem q4820 : (Jvm.Cond.code ({ cls := "WasteHouse$HazardRules$Words", name := "is", desc := "(ILWasteHouse$HazardRules$Word;)Z" } : Jvm.MethodName) prog_23_method_5_code (3 : Nat) (Option.some Jvm.ClassFile.FieldType.boolean)) ∈ lw_all := lw_g (lw_at lw_m19 108 rfl) rfl
theorem q4828 : (Jvm.Cond.instanceMethod ({ cls := "WasteHouse$HazardRules$Words", name := "isNumber", desc := "(II)Z" } : Jvm.MethodName)) ∈ lw_all := lw_g (lw_at lw_m19 116 rfl) rfl
theorem q4829 : (Jvm.Cond.selects "WasteHouse$HazardRules$Words" ({ cls := "WasteHouse$HazardRules$Words", name := "isNumber", desc := "(II)Z" } : Jvm.MethodName) ({ cls := "WasteHouse$HazardRules$Words", name := "isNumber", desc := "(II)Z" } : Jvm.MethodName)) ∈ lw_all := lw_g (lw_at lw_m19 117 rfl) rfl
theorem q4830 : (Jvm.Cond.code ({ cls := "WasteHouse$HazardRules$Words", name := "isNumber", desc := "(II)Z" } : Jvm.MethodName) prog_23_method_6_code (3 : Nat) (Option.some Jvm.ClassFile.FieldType.boolean)) ∈ lw_all := lw_g (lw_at lw_m19 118 rfl) rfl
theorem q4831 : (Jvm.Cond.methodLink "WasteHouse$HazardRules$Words" (62 : Nat) ({ cls := "WasteHouse$HazardRules$Words", name := "is", desc := "(ILWasteHouse$HazardRules$Word;)Z" } : Jvm.MethodName)) ∈ lw_all := lw_g (lw_at lw_m19 119 rfl) rfl
theorem q4877 : (Jvm.Cond.instanceMethod ({ cls := "WasteHouse$HazardRules$Words", name := "copy", desc := "(LWasteHouse$HazardRules$Words;)V" } : Jvm.MethodName)) ∈ lw_all := lw_g (lw_at lw_m19 165 rfl) rfl
theorem q4878 : (Jvm.Cond.selects "WasteHouse$HazardRules$Words" ({ cls := "WasteHouse$HazardRules$Words", name := "copy", desc := "(LWasteHouse$HazardRules$Words;)V" } : Jvm.MethodName) ({ cls := "WasteHouse$HazardRules$Words", name := "copy", desc := "(LWasteHouse$HazardRules$Words;)V" } : Jvm.MethodName)) ∈ lw_all := lw_g (lw_at lw_m19 166 rfl) rfl
theorem q4879 : (Jvm.Cond.code ({ cls := "WasteHouse$HazardRules$Words", name := "copy", desc := "(LWasteHouse$HazardRules$Words;)V" } : Jvm.MethodName) prog_23_method_7_code (2 : Nat) (Option.none : Option Jvm.ClassFile.FieldType)) ∈ lw_all := lw_g (lw_at lw_m19 167 rfl) rfl
theorem q4880 : (Jvm.Cond.methodLink "WasteHouse$HazardRules$Words" (66 : Nat) ({ cls := "java/lang/System", name := "arraycopy", desc := "(Ljava/lang/Object;ILjava/lang/Object;II)V" } : Jvm.MethodName)) ∈ lw_all := lw_g (lw_at lw_m19 168 rfl) rfl
theorem q9642 : (Jvm.Cond.castable "WasteHouse$HazardRules$Words" "java/lang/Object") ∈ lw_tbl := lw_at lw_m39 130 rfl
theorem in_X13 : ∀ w ∈ wsX130, w ∈ lw_all := lw_in wsX130 [958, 960, 962, 964, 966, 968, 970, 972] (by decide +kernel) (by decide +kernel)
