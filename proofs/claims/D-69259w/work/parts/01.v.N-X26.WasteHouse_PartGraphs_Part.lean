/-! WasteHouse$PartGraphs$Part -/
set_option maxRecDepth 100000
def RX26 : String := "WasteHouse$PartGraphs$Part"
def TX26 : u_T := fun k => match k with
  | 0 => ("WasteHouse$PartGraphs$Part", "kind", "I", false)
  | 1 => ("WasteHouse$PartGraphs$Part", "grams", "I", false)
  | 2 => ("WasteHouse$PartGraphs$Part", "covers", "I", false)
  | 3 => ("WasteHouse$PartGraphs$Part", "bars", "[I", true)
  | 4 => ("WasteHouse$PartGraphs$Part", "hazards", "I", false)
  | 5 => ("WasteHouse$PartGraphs$Part", "family", "I", false)
  | _ => ("WasteHouse$PartGraphs$Part", "damage", "I", false)
def tyX26 : Nat → FieldType := fun k => match k with
  | 0 => .int
  | 1 => .int
  | 2 => .int
  | 3 => .array .int
  | 4 => .int
  | 5 => .int
  | _ => .int
abbrev wsX260 : List Cond := u_ws RX26 TX26 7
theorem nmX26 : ∀ a, a < 7 → ∀ b, b < 7 → a ≠ b → (TX26 a).2.1 ≠ (TX26 b).2.1 := by decide +kernel
theorem tyX26_ok : ∀ k, k < 7 → parseFieldDescriptor (TX26 k).2.2.1 = some (tyX26 k) := by decide +kernel
abbrev cX26_init : ByteArray := prog_28_method_1_code
def yX26_init : MethodName := ⟨RX26, "<init>", "()V"⟩
def dkwX26_init_0 : List UInt8 := [42, 183, 0, 3, 42, 16, 6, 188, 10, 181, 0, 9, 177]
abbrev dktX26_init_0 : List UInt8 := dkwX26_init_0 ++ []
theorem dksX26_init_0 : cX26_init.data.toList.drop 0 = dktX26_init_0 := by decide +kernel
theorem dX26_init_0 : decode cX26_init 0 = .ok (.aload_n 0, 1) := dk_42 (dk_at dksX26_init_0 0 rfl rfl)
theorem dX26_init_1 : decode cX26_init 1 = .ok (.invokespecial 3, 3) := dk_183 0 3 (dk_at dksX26_init_0 1 rfl rfl)
theorem dX26_init_4 : decode cX26_init 4 = .ok (.aload_n 0, 1) := dk_42 (dk_at dksX26_init_0 4 rfl rfl)
theorem dX26_init_5 : decode cX26_init 5 = .ok (.bipush 6, 2) := dk_16 6 (dk_at dksX26_init_0 5 rfl rfl)
theorem dX26_init_7 : decode cX26_init 7 = .ok (.newarray .int, 2) := dk_188_10 (dk_at dksX26_init_0 7 rfl rfl)
theorem dX26_init_9 : decode cX26_init 9 = .ok (.putfield 9, 3) := dk_181 0 9 (dk_at dksX26_init_0 9 rfl rfl)
theorem dX26_init_12 : decode cX26_init 12 = .ok (.return_, 1) := dk_177 (dk_at dksX26_init_0 12 rfl rfl)
abbrev cX26_isFree : ByteArray := prog_28_method_6_code
def yX26_isFree : MethodName := ⟨RX26, "isFree", "(I)Z"⟩
def dkwX26_isFree_2 : List UInt8 := [153, 0, 7, 4, 167, 0, 4, 3, 172]
abbrev dktX26_isFree_2 : List UInt8 := dkwX26_isFree_2 ++ []
def dkwX26_isFree_1 : List UInt8 := [4, 167, 0, 4, 3, 128, 61, 132, 3, 1, 167, 255, 226, 28, 153, 0, 15, 42, 27, 182, 0, 44]
abbrev dktX26_isFree_1 : List UInt8 := dkwX26_isFree_1 ++ dktX26_isFree_2
def dkwX26_isFree_0 : List UInt8 := [3, 61, 3, 62, 29, 16, 6, 162, 0, 30, 28, 42, 180, 0, 9, 29, 46, 27, 2, 130, 126, 154, 0, 7]
abbrev dktX26_isFree_0 : List UInt8 := dkwX26_isFree_0 ++ dktX26_isFree_1
theorem dksX26_isFree_0 : cX26_isFree.data.toList.drop 0 = dktX26_isFree_0 := by decide +kernel
theorem dksX26_isFree_1 : cX26_isFree.data.toList.drop 24 = dktX26_isFree_1 := dk_seg dksX26_isFree_0 24 rfl rfl
theorem dksX26_isFree_2 : cX26_isFree.data.toList.drop 46 = dktX26_isFree_2 := dk_seg dksX26_isFree_1 22 rfl rfl
theorem dX26_isFree_0 : decode cX26_isFree 0 = .ok (.iconst 0, 1) := dk_3 (dk_at dksX26_isFree_0 0 rfl rfl)
theorem dX26_isFree_1 : decode cX26_isFree 1 = .ok (.istore_n 2, 1) := dk_61 (dk_at dksX26_isFree_0 1 rfl rfl)
theorem dX26_isFree_2 : decode cX26_isFree 2 = .ok (.iconst 0, 1) := dk_3 (dk_at dksX26_isFree_0 2 rfl rfl)
theorem dX26_isFree_3 : decode cX26_isFree 3 = .ok (.istore_n 3, 1) := dk_62 (dk_at dksX26_isFree_0 3 rfl rfl)
theorem dX26_isFree_4 : decode cX26_isFree 4 = .ok (.iload_n 3, 1) := dk_29 (dk_at dksX26_isFree_0 4 rfl rfl)
theorem dX26_isFree_5 : decode cX26_isFree 5 = .ok (.bipush 6, 2) := dk_16 6 (dk_at dksX26_isFree_0 5 rfl rfl)
theorem dX26_isFree_7 : decode cX26_isFree 7 = .ok (.if_icmp .ge 30, 3) := dk_162 0 30 (dk_at dksX26_isFree_0 7 rfl rfl)
theorem dX26_isFree_10 : decode cX26_isFree 10 = .ok (.iload_n 2, 1) := dk_28 (dk_at dksX26_isFree_0 10 rfl rfl)
theorem dX26_isFree_11 : decode cX26_isFree 11 = .ok (.aload_n 0, 1) := dk_42 (dk_at dksX26_isFree_0 11 rfl rfl)
theorem dX26_isFree_12 : decode cX26_isFree 12 = .ok (.getfield 9, 3) := dk_180 0 9 (dk_at dksX26_isFree_0 12 rfl rfl)
theorem dX26_isFree_15 : decode cX26_isFree 15 = .ok (.iload_n 3, 1) := dk_29 (dk_at dksX26_isFree_0 15 rfl rfl)
theorem dX26_isFree_16 : decode cX26_isFree 16 = .ok (.iaload, 1) := dk_46 (dk_at dksX26_isFree_0 16 rfl rfl)
theorem dX26_isFree_17 : decode cX26_isFree 17 = .ok (.iload_n 1, 1) := dk_27 (dk_at dksX26_isFree_0 17 rfl rfl)
theorem dX26_isFree_18 : decode cX26_isFree 18 = .ok (.iconst (-1), 1) := dk_2 (dk_at dksX26_isFree_0 18 rfl rfl)
theorem dX26_isFree_19 : decode cX26_isFree 19 = .ok (.ixor, 1) := dk_130 (dk_at dksX26_isFree_0 19 rfl rfl)
theorem dX26_isFree_20 : decode cX26_isFree 20 = .ok (.iand, 1) := dk_126 (dk_at dksX26_isFree_0 20 rfl rfl)
theorem dX26_isFree_21 : decode cX26_isFree 21 = .ok (.ifCond .ne 7, 3) := dk_154 0 7 (dk_at dksX26_isFree_0 21 rfl rfl)
theorem dX26_isFree_24 : decode cX26_isFree 24 = .ok (.iconst 1, 1) := dk_4 (dk_at dksX26_isFree_1 0 rfl rfl)
theorem dX26_isFree_25 : decode cX26_isFree 25 = .ok (.goto 4, 3) := dk_167 0 4 (dk_at dksX26_isFree_1 1 rfl rfl)
theorem dX26_isFree_28 : decode cX26_isFree 28 = .ok (.iconst 0, 1) := dk_3 (dk_at dksX26_isFree_1 4 rfl rfl)
theorem dX26_isFree_29 : decode cX26_isFree 29 = .ok (.ior, 1) := dk_128 (dk_at dksX26_isFree_1 5 rfl rfl)
theorem dX26_isFree_30 : decode cX26_isFree 30 = .ok (.istore_n 2, 1) := dk_61 (dk_at dksX26_isFree_1 6 rfl rfl)
theorem dX26_isFree_31 : decode cX26_isFree 31 = .ok (.iinc 3 1, 3) := dk_132 3 1 (dk_at dksX26_isFree_1 7 rfl rfl)
theorem dX26_isFree_34 : decode cX26_isFree 34 = .ok (.goto (-30), 3) := dk_167 255 226 (dk_at dksX26_isFree_1 10 rfl rfl)
theorem dX26_isFree_37 : decode cX26_isFree 37 = .ok (.iload_n 2, 1) := dk_28 (dk_at dksX26_isFree_1 13 rfl rfl)
theorem dX26_isFree_38 : decode cX26_isFree 38 = .ok (.ifCond .eq 15, 3) := dk_153 0 15 (dk_at dksX26_isFree_1 14 rfl rfl)
theorem dX26_isFree_41 : decode cX26_isFree 41 = .ok (.aload_n 0, 1) := dk_42 (dk_at dksX26_isFree_1 17 rfl rfl)
theorem dX26_isFree_42 : decode cX26_isFree 42 = .ok (.iload_n 1, 1) := dk_27 (dk_at dksX26_isFree_1 18 rfl rfl)
theorem dX26_isFree_43 : decode cX26_isFree 43 = .ok (.invokevirtual 44, 3) := dk_182 0 44 (dk_at dksX26_isFree_1 19 rfl rfl)
theorem dX26_isFree_46 : decode cX26_isFree 46 = .ok (.ifCond .eq 7, 3) := dk_153 0 7 (dk_at dksX26_isFree_2 0 rfl rfl)
theorem dX26_isFree_49 : decode cX26_isFree 49 = .ok (.iconst 1, 1) := dk_4 (dk_at dksX26_isFree_2 3 rfl rfl)
theorem dX26_isFree_50 : decode cX26_isFree 50 = .ok (.goto 4, 3) := dk_167 0 4 (dk_at dksX26_isFree_2 4 rfl rfl)
theorem dX26_isFree_53 : decode cX26_isFree 53 = .ok (.iconst 0, 1) := dk_3 (dk_at dksX26_isFree_2 7 rfl rfl)
theorem dX26_isFree_54 : decode cX26_isFree 54 = .ok (.ireturn, 1) := dk_172 (dk_at dksX26_isFree_2 8 rfl rfl)
abbrev cX26_isPlain : ByteArray := prog_28_method_5_code
def yX26_isPlain : MethodName := ⟨RX26, "isPlain", "(I)Z"⟩
def dkwX26_isPlain_0 : List UInt8 := [42, 180, 0, 22, 27, 2, 130, 126, 154, 0, 7, 4, 167, 0, 4, 3, 172]
abbrev dktX26_isPlain_0 : List UInt8 := dkwX26_isPlain_0 ++ []
theorem dksX26_isPlain_0 : cX26_isPlain.data.toList.drop 0 = dktX26_isPlain_0 := by decide +kernel
theorem dX26_isPlain_0 : decode cX26_isPlain 0 = .ok (.aload_n 0, 1) := dk_42 (dk_at dksX26_isPlain_0 0 rfl rfl)
theorem dX26_isPlain_1 : decode cX26_isPlain 1 = .ok (.getfield 22, 3) := dk_180 0 22 (dk_at dksX26_isPlain_0 1 rfl rfl)
theorem dX26_isPlain_4 : decode cX26_isPlain 4 = .ok (.iload_n 1, 1) := dk_27 (dk_at dksX26_isPlain_0 4 rfl rfl)
theorem dX26_isPlain_5 : decode cX26_isPlain 5 = .ok (.iconst (-1), 1) := dk_2 (dk_at dksX26_isPlain_0 5 rfl rfl)
theorem dX26_isPlain_6 : decode cX26_isPlain 6 = .ok (.ixor, 1) := dk_130 (dk_at dksX26_isPlain_0 6 rfl rfl)
theorem dX26_isPlain_7 : decode cX26_isPlain 7 = .ok (.iand, 1) := dk_126 (dk_at dksX26_isPlain_0 7 rfl rfl)
theorem dX26_isPlain_8 : decode cX26_isPlain 8 = .ok (.ifCond .ne 7, 3) := dk_154 0 7 (dk_at dksX26_isPlain_0 8 rfl rfl)
theorem dX26_isPlain_11 : decode cX26_isPlain 11 = .ok (.iconst 1, 1) := dk_4 (dk_at dksX26_isPlain_0 11 rfl rfl)
theorem dX26_isPlain_12 : decode cX26_isPlain 12 = .ok (.goto 4, 3) := dk_167 0 4 (dk_at dksX26_isPlain_0 12 rfl rfl)
theorem dX26_isPlain_15 : decode cX26_isPlain 15 = .ok (.iconst 0, 1) := dk_3 (dk_at dksX26_isPlain_0 15 rfl rfl)
theorem dX26_isPlain_16 : decode cX26_isPlain 16 = .ok (.ireturn, 1) := dk_172 (dk_at dksX26_isPlain_0 16 rfl rfl)
abbrev cX26_set : ByteArray := prog_28_method_2_code
def yX26_set : MethodName := ⟨RX26, "set", "(II)V"⟩
def dkwX26_set_2 : List UInt8 := [132, 3, 1, 167, 255, 240, 177]
abbrev dktX26_set_2 : List UInt8 := dkwX26_set_2 ++ []
def dkwX26_set_1 : List UInt8 := [181, 0, 28, 42, 3, 181, 0, 31, 3, 62, 29, 16, 6, 162, 0, 16, 42, 180, 0, 9, 29, 3, 79]
abbrev dktX26_set_1 : List UInt8 := dkwX26_set_1 ++ dktX26_set_2
def dkwX26_set_0 : List UInt8 := [42, 27, 181, 0, 15, 42, 28, 181, 0, 19, 42, 3, 181, 0, 22, 42, 3, 181, 0, 25, 42, 2]
abbrev dktX26_set_0 : List UInt8 := dkwX26_set_0 ++ dktX26_set_1
theorem dksX26_set_0 : cX26_set.data.toList.drop 0 = dktX26_set_0 := by decide +kernel
theorem dksX26_set_1 : cX26_set.data.toList.drop 22 = dktX26_set_1 := dk_seg dksX26_set_0 22 rfl rfl
theorem dksX26_set_2 : cX26_set.data.toList.drop 45 = dktX26_set_2 := dk_seg dksX26_set_1 23 rfl rfl
theorem dX26_set_0 : decode cX26_set 0 = .ok (.aload_n 0, 1) := dk_42 (dk_at dksX26_set_0 0 rfl rfl)
theorem dX26_set_1 : decode cX26_set 1 = .ok (.iload_n 1, 1) := dk_27 (dk_at dksX26_set_0 1 rfl rfl)
theorem dX26_set_2 : decode cX26_set 2 = .ok (.putfield 15, 3) := dk_181 0 15 (dk_at dksX26_set_0 2 rfl rfl)
theorem dX26_set_5 : decode cX26_set 5 = .ok (.aload_n 0, 1) := dk_42 (dk_at dksX26_set_0 5 rfl rfl)
theorem dX26_set_6 : decode cX26_set 6 = .ok (.iload_n 2, 1) := dk_28 (dk_at dksX26_set_0 6 rfl rfl)
theorem dX26_set_7 : decode cX26_set 7 = .ok (.putfield 19, 3) := dk_181 0 19 (dk_at dksX26_set_0 7 rfl rfl)
theorem dX26_set_10 : decode cX26_set 10 = .ok (.aload_n 0, 1) := dk_42 (dk_at dksX26_set_0 10 rfl rfl)
theorem dX26_set_11 : decode cX26_set 11 = .ok (.iconst 0, 1) := dk_3 (dk_at dksX26_set_0 11 rfl rfl)
theorem dX26_set_12 : decode cX26_set 12 = .ok (.putfield 22, 3) := dk_181 0 22 (dk_at dksX26_set_0 12 rfl rfl)
theorem dX26_set_15 : decode cX26_set 15 = .ok (.aload_n 0, 1) := dk_42 (dk_at dksX26_set_0 15 rfl rfl)
theorem dX26_set_16 : decode cX26_set 16 = .ok (.iconst 0, 1) := dk_3 (dk_at dksX26_set_0 16 rfl rfl)
theorem dX26_set_17 : decode cX26_set 17 = .ok (.putfield 25, 3) := dk_181 0 25 (dk_at dksX26_set_0 17 rfl rfl)
theorem dX26_set_20 : decode cX26_set 20 = .ok (.aload_n 0, 1) := dk_42 (dk_at dksX26_set_0 20 rfl rfl)
theorem dX26_set_21 : decode cX26_set 21 = .ok (.iconst (-1), 1) := dk_2 (dk_at dksX26_set_0 21 rfl rfl)
theorem dX26_set_22 : decode cX26_set 22 = .ok (.putfield 28, 3) := dk_181 0 28 (dk_at dksX26_set_1 0 rfl rfl)
theorem dX26_set_25 : decode cX26_set 25 = .ok (.aload_n 0, 1) := dk_42 (dk_at dksX26_set_1 3 rfl rfl)
theorem dX26_set_26 : decode cX26_set 26 = .ok (.iconst 0, 1) := dk_3 (dk_at dksX26_set_1 4 rfl rfl)
theorem dX26_set_27 : decode cX26_set 27 = .ok (.putfield 31, 3) := dk_181 0 31 (dk_at dksX26_set_1 5 rfl rfl)
theorem dX26_set_30 : decode cX26_set 30 = .ok (.iconst 0, 1) := dk_3 (dk_at dksX26_set_1 8 rfl rfl)
theorem dX26_set_31 : decode cX26_set 31 = .ok (.istore_n 3, 1) := dk_62 (dk_at dksX26_set_1 9 rfl rfl)
theorem dX26_set_32 : decode cX26_set 32 = .ok (.iload_n 3, 1) := dk_29 (dk_at dksX26_set_1 10 rfl rfl)
theorem dX26_set_33 : decode cX26_set 33 = .ok (.bipush 6, 2) := dk_16 6 (dk_at dksX26_set_1 11 rfl rfl)
theorem dX26_set_35 : decode cX26_set 35 = .ok (.if_icmp .ge 16, 3) := dk_162 0 16 (dk_at dksX26_set_1 13 rfl rfl)
theorem dX26_set_38 : decode cX26_set 38 = .ok (.aload_n 0, 1) := dk_42 (dk_at dksX26_set_1 16 rfl rfl)
theorem dX26_set_39 : decode cX26_set 39 = .ok (.getfield 9, 3) := dk_180 0 9 (dk_at dksX26_set_1 17 rfl rfl)
theorem dX26_set_42 : decode cX26_set 42 = .ok (.iload_n 3, 1) := dk_29 (dk_at dksX26_set_1 20 rfl rfl)
theorem dX26_set_43 : decode cX26_set 43 = .ok (.iconst 0, 1) := dk_3 (dk_at dksX26_set_1 21 rfl rfl)
theorem dX26_set_44 : decode cX26_set 44 = .ok (.iastore, 1) := dk_79 (dk_at dksX26_set_1 22 rfl rfl)
theorem dX26_set_45 : decode cX26_set 45 = .ok (.iinc 3 1, 3) := dk_132 3 1 (dk_at dksX26_set_2 0 rfl rfl)
theorem dX26_set_48 : decode cX26_set 48 = .ok (.goto (-16), 3) := dk_167 255 240 (dk_at dksX26_set_2 3 rfl rfl)
theorem dX26_set_51 : decode cX26_set 51 = .ok (.return_, 1) := dk_177 (dk_at dksX26_set_2 6 rfl rfl)
abbrev cX26_copy : ByteArray := prog_28_method_3_code
def yX26_copy : MethodName := ⟨RX26, "copy", "(LWasteHouse$PartGraphs$Part;)V"⟩
def dkwX26_copy_2 : List UInt8 := [180, 0, 9, 3, 42, 180, 0, 9, 3, 16, 6, 184, 0, 38, 177]
abbrev dktX26_copy_2 : List UInt8 := dkwX26_copy_2 ++ []
def dkwX26_copy_1 : List UInt8 := [180, 0, 25, 181, 0, 25, 42, 43, 180, 0, 28, 181, 0, 28, 42, 43, 180, 0, 31, 181, 0, 31, 43]
abbrev dktX26_copy_1 : List UInt8 := dkwX26_copy_1 ++ dktX26_copy_2
def dkwX26_copy_0 : List UInt8 := [42, 43, 180, 0, 15, 43, 180, 0, 19, 182, 0, 34, 42, 43, 180, 0, 22, 181, 0, 22, 42, 43]
abbrev dktX26_copy_0 : List UInt8 := dkwX26_copy_0 ++ dktX26_copy_1
theorem dksX26_copy_0 : cX26_copy.data.toList.drop 0 = dktX26_copy_0 := by decide +kernel
theorem dksX26_copy_1 : cX26_copy.data.toList.drop 22 = dktX26_copy_1 := dk_seg dksX26_copy_0 22 rfl rfl
theorem dksX26_copy_2 : cX26_copy.data.toList.drop 45 = dktX26_copy_2 := dk_seg dksX26_copy_1 23 rfl rfl
theorem dX26_copy_0 : decode cX26_copy 0 = .ok (.aload_n 0, 1) := dk_42 (dk_at dksX26_copy_0 0 rfl rfl)
theorem dX26_copy_1 : decode cX26_copy 1 = .ok (.aload_n 1, 1) := dk_43 (dk_at dksX26_copy_0 1 rfl rfl)
theorem dX26_copy_2 : decode cX26_copy 2 = .ok (.getfield 15, 3) := dk_180 0 15 (dk_at dksX26_copy_0 2 rfl rfl)
theorem dX26_copy_5 : decode cX26_copy 5 = .ok (.aload_n 1, 1) := dk_43 (dk_at dksX26_copy_0 5 rfl rfl)
theorem dX26_copy_6 : decode cX26_copy 6 = .ok (.getfield 19, 3) := dk_180 0 19 (dk_at dksX26_copy_0 6 rfl rfl)
theorem dX26_copy_9 : decode cX26_copy 9 = .ok (.invokevirtual 34, 3) := dk_182 0 34 (dk_at dksX26_copy_0 9 rfl rfl)
theorem dX26_copy_12 : decode cX26_copy 12 = .ok (.aload_n 0, 1) := dk_42 (dk_at dksX26_copy_0 12 rfl rfl)
theorem dX26_copy_13 : decode cX26_copy 13 = .ok (.aload_n 1, 1) := dk_43 (dk_at dksX26_copy_0 13 rfl rfl)
theorem dX26_copy_14 : decode cX26_copy 14 = .ok (.getfield 22, 3) := dk_180 0 22 (dk_at dksX26_copy_0 14 rfl rfl)
theorem dX26_copy_17 : decode cX26_copy 17 = .ok (.putfield 22, 3) := dk_181 0 22 (dk_at dksX26_copy_0 17 rfl rfl)
theorem dX26_copy_20 : decode cX26_copy 20 = .ok (.aload_n 0, 1) := dk_42 (dk_at dksX26_copy_0 20 rfl rfl)
theorem dX26_copy_21 : decode cX26_copy 21 = .ok (.aload_n 1, 1) := dk_43 (dk_at dksX26_copy_0 21 rfl rfl)
theorem dX26_copy_22 : decode cX26_copy 22 = .ok (.getfield 25, 3) := dk_180 0 25 (dk_at dksX26_copy_1 0 rfl rfl)
theorem dX26_copy_25 : decode cX26_copy 25 = .ok (.putfield 25, 3) := dk_181 0 25 (dk_at dksX26_copy_1 3 rfl rfl)
theorem dX26_copy_28 : decode cX26_copy 28 = .ok (.aload_n 0, 1) := dk_42 (dk_at dksX26_copy_1 6 rfl rfl)
theorem dX26_copy_29 : decode cX26_copy 29 = .ok (.aload_n 1, 1) := dk_43 (dk_at dksX26_copy_1 7 rfl rfl)
theorem dX26_copy_30 : decode cX26_copy 30 = .ok (.getfield 28, 3) := dk_180 0 28 (dk_at dksX26_copy_1 8 rfl rfl)
theorem dX26_copy_33 : decode cX26_copy 33 = .ok (.putfield 28, 3) := dk_181 0 28 (dk_at dksX26_copy_1 11 rfl rfl)
theorem dX26_copy_36 : decode cX26_copy 36 = .ok (.aload_n 0, 1) := dk_42 (dk_at dksX26_copy_1 14 rfl rfl)
theorem dX26_copy_37 : decode cX26_copy 37 = .ok (.aload_n 1, 1) := dk_43 (dk_at dksX26_copy_1 15 rfl rfl)
theorem dX26_copy_38 : decode cX26_copy 38 = .ok (.getfield 31, 3) := dk_180 0 31 (dk_at dksX26_copy_1 16 rfl rfl)
theorem dX26_copy_41 : decode cX26_copy 41 = .ok (.putfield 31, 3) := dk_181 0 31 (dk_at dksX26_copy_1 19 rfl rfl)
theorem dX26_copy_44 : decode cX26_copy 44 = .ok (.aload_n 1, 1) := dk_43 (dk_at dksX26_copy_1 22 rfl rfl)
theorem dX26_copy_45 : decode cX26_copy 45 = .ok (.getfield 9, 3) := dk_180 0 9 (dk_at dksX26_copy_2 0 rfl rfl)
theorem dX26_copy_48 : decode cX26_copy 48 = .ok (.iconst 0, 1) := dk_3 (dk_at dksX26_copy_2 3 rfl rfl)
theorem dX26_copy_49 : decode cX26_copy 49 = .ok (.aload_n 0, 1) := dk_42 (dk_at dksX26_copy_2 4 rfl rfl)
theorem dX26_copy_50 : decode cX26_copy 50 = .ok (.getfield 9, 3) := dk_180 0 9 (dk_at dksX26_copy_2 5 rfl rfl)
theorem dX26_copy_53 : decode cX26_copy 53 = .ok (.iconst 0, 1) := dk_3 (dk_at dksX26_copy_2 8 rfl rfl)
theorem dX26_copy_54 : decode cX26_copy 54 = .ok (.bipush 6, 2) := dk_16 6 (dk_at dksX26_copy_2 9 rfl rfl)
theorem dX26_copy_56 : decode cX26_copy 56 = .ok (.invokestatic 38, 3) := dk_184 0 38 (dk_at dksX26_copy_2 11 rfl rfl)
theorem dX26_copy_59 : decode cX26_copy 59 = .ok (.return_, 1) := dk_177 (dk_at dksX26_copy_2 14 rfl rfl)
abbrev cX26_isAlike : ByteArray := prog_28_method_4_code
def yX26_isAlike : MethodName := ⟨RX26, "isAlike", "(LWasteHouse$PartGraphs$Part;)Z"⟩
def dkwX26_isAlike_1 : List UInt8 := [180, 0, 25, 43, 180, 0, 25, 160, 0, 7, 4, 167, 0, 4, 3, 172]
abbrev dktX26_isAlike_1 : List UInt8 := dkwX26_isAlike_1 ++ []
def dkwX26_isAlike_0 : List UInt8 := [42, 180, 0, 15, 43, 180, 0, 15, 160, 0, 29, 42, 180, 0, 19, 43, 180, 0, 19, 160, 0, 18, 42]
abbrev dktX26_isAlike_0 : List UInt8 := dkwX26_isAlike_0 ++ dktX26_isAlike_1
theorem dksX26_isAlike_0 : cX26_isAlike.data.toList.drop 0 = dktX26_isAlike_0 := by decide +kernel
theorem dksX26_isAlike_1 : cX26_isAlike.data.toList.drop 23 = dktX26_isAlike_1 := dk_seg dksX26_isAlike_0 23 rfl rfl
theorem dX26_isAlike_0 : decode cX26_isAlike 0 = .ok (.aload_n 0, 1) := dk_42 (dk_at dksX26_isAlike_0 0 rfl rfl)
theorem dX26_isAlike_1 : decode cX26_isAlike 1 = .ok (.getfield 15, 3) := dk_180 0 15 (dk_at dksX26_isAlike_0 1 rfl rfl)
theorem dX26_isAlike_4 : decode cX26_isAlike 4 = .ok (.aload_n 1, 1) := dk_43 (dk_at dksX26_isAlike_0 4 rfl rfl)
theorem dX26_isAlike_5 : decode cX26_isAlike 5 = .ok (.getfield 15, 3) := dk_180 0 15 (dk_at dksX26_isAlike_0 5 rfl rfl)
theorem dX26_isAlike_8 : decode cX26_isAlike 8 = .ok (.if_icmp .ne 29, 3) := dk_160 0 29 (dk_at dksX26_isAlike_0 8 rfl rfl)
theorem dX26_isAlike_11 : decode cX26_isAlike 11 = .ok (.aload_n 0, 1) := dk_42 (dk_at dksX26_isAlike_0 11 rfl rfl)
theorem dX26_isAlike_12 : decode cX26_isAlike 12 = .ok (.getfield 19, 3) := dk_180 0 19 (dk_at dksX26_isAlike_0 12 rfl rfl)
theorem dX26_isAlike_15 : decode cX26_isAlike 15 = .ok (.aload_n 1, 1) := dk_43 (dk_at dksX26_isAlike_0 15 rfl rfl)
theorem dX26_isAlike_16 : decode cX26_isAlike 16 = .ok (.getfield 19, 3) := dk_180 0 19 (dk_at dksX26_isAlike_0 16 rfl rfl)
theorem dX26_isAlike_19 : decode cX26_isAlike 19 = .ok (.if_icmp .ne 18, 3) := dk_160 0 18 (dk_at dksX26_isAlike_0 19 rfl rfl)
theorem dX26_isAlike_22 : decode cX26_isAlike 22 = .ok (.aload_n 0, 1) := dk_42 (dk_at dksX26_isAlike_0 22 rfl rfl)
theorem dX26_isAlike_23 : decode cX26_isAlike 23 = .ok (.getfield 25, 3) := dk_180 0 25 (dk_at dksX26_isAlike_1 0 rfl rfl)
theorem dX26_isAlike_26 : decode cX26_isAlike 26 = .ok (.aload_n 1, 1) := dk_43 (dk_at dksX26_isAlike_1 3 rfl rfl)
theorem dX26_isAlike_27 : decode cX26_isAlike 27 = .ok (.getfield 25, 3) := dk_180 0 25 (dk_at dksX26_isAlike_1 4 rfl rfl)
theorem dX26_isAlike_30 : decode cX26_isAlike 30 = .ok (.if_icmp .ne 7, 3) := dk_160 0 7 (dk_at dksX26_isAlike_1 7 rfl rfl)
theorem dX26_isAlike_33 : decode cX26_isAlike 33 = .ok (.iconst 1, 1) := dk_4 (dk_at dksX26_isAlike_1 10 rfl rfl)
theorem dX26_isAlike_34 : decode cX26_isAlike 34 = .ok (.goto 4, 3) := dk_167 0 4 (dk_at dksX26_isAlike_1 11 rfl rfl)
theorem dX26_isAlike_37 : decode cX26_isAlike 37 = .ok (.iconst 0, 1) := dk_3 (dk_at dksX26_isAlike_1 14 rfl rfl)
theorem dX26_isAlike_38 : decode cX26_isAlike 38 = .ok (.ireturn, 1) := dk_172 (dk_at dksX26_isAlike_1 15 rfl rfl)
theorem q425 : (Jvm.Cond.initialized "WasteHouse$PartGraphs$Part") ∈ lw_all := lw_g (lw_at lw_m1 33 rfl) rfl
theorem q1419 : (Jvm.Cond.instantiable "WasteHouse$PartGraphs$Part" (7 : Nat)) ∈ lw_all := lw_g (lw_at lw_m5 67 rfl) rfl
theorem q1421 : (Jvm.Cond.instanceMethod ({ cls := "WasteHouse$PartGraphs$Part", name := "<init>", desc := "()V" } : Jvm.MethodName)) ∈ lw_all := lw_g (lw_at lw_m5 69 rfl) rfl
theorem q1422 : (Jvm.Cond.code ({ cls := "WasteHouse$PartGraphs$Part", name := "<init>", desc := "()V" } : Jvm.MethodName) prog_28_method_1_code (1 : Nat) (Option.none : Option Jvm.ClassFile.FieldType)) ∈ lw_all := lw_g (lw_at lw_m5 70 rfl) rfl
theorem q1423 : (Jvm.Cond.methodLink "WasteHouse$PartGraphs$Part" (3 : Nat) ({ cls := "java/lang/Object", name := "<init>", desc := "()V" } : Jvm.MethodName)) ∈ lw_all := lw_g (lw_at lw_m5 71 rfl) rfl
theorem q1424 : (Jvm.Cond.fieldLink "WasteHouse$PartGraphs$Part" (15 : Nat) "WasteHouse$PartGraphs$Part" "kind" "I") ∈ lw_all := lw_g (lw_at lw_m5 72 rfl) rfl
theorem q1427 : (Jvm.Cond.fieldLink "WasteHouse$PartGraphs$Part" (19 : Nat) "WasteHouse$PartGraphs$Part" "grams" "I") ∈ lw_all := lw_g (lw_at lw_m5 75 rfl) rfl
theorem q1430 : (Jvm.Cond.fieldLink "WasteHouse$PartGraphs$Part" (22 : Nat) "WasteHouse$PartGraphs$Part" "covers" "I") ∈ lw_all := lw_g (lw_at lw_m5 78 rfl) rfl
theorem q1433 : (Jvm.Cond.fieldLink "WasteHouse$PartGraphs$Part" (9 : Nat) "WasteHouse$PartGraphs$Part" "bars" "[I") ∈ lw_all := lw_g (lw_at lw_m5 81 rfl) rfl
theorem q1436 : (Jvm.Cond.fieldLink "WasteHouse$PartGraphs$Part" (25 : Nat) "WasteHouse$PartGraphs$Part" "hazards" "I") ∈ lw_all := lw_g (lw_at lw_m5 84 rfl) rfl
theorem q1439 : (Jvm.Cond.fieldLink "WasteHouse$PartGraphs$Part" (28 : Nat) "WasteHouse$PartGraphs$Part" "family" "I") ∈ lw_all := lw_g (lw_at lw_m5 87 rfl) rfl
theorem q1443 : (Jvm.Cond.fieldLink "WasteHouse$PartGraphs$Part" (31 : Nat) "WasteHouse$PartGraphs$Part" "damage" "I") ∈ lw_all := lw_g (lw_at lw_m5 91 rfl) rfl
theorem q1446 : (Jvm.Cond.lays "WasteHouse$PartGraphs$Part" "WasteHouse$PartGraphs$Part" "kind" "I") ∈ lw_all := lw_g (lw_at lw_m5 94 rfl) rfl
theorem q1447 : (Jvm.Cond.soleField "WasteHouse$PartGraphs$Part" "kind") ∈ lw_all := lw_g (lw_at lw_m5 95 rfl) rfl
theorem q1448 : (Jvm.Cond.lays "WasteHouse$PartGraphs$Part" "WasteHouse$PartGraphs$Part" "grams" "I") ∈ lw_all := lw_g (lw_at lw_m5 96 rfl) rfl
theorem q1449 : (Jvm.Cond.soleField "WasteHouse$PartGraphs$Part" "grams") ∈ lw_all := lw_g (lw_at lw_m5 97 rfl) rfl
theorem q1450 : (Jvm.Cond.lays "WasteHouse$PartGraphs$Part" "WasteHouse$PartGraphs$Part" "covers" "I") ∈ lw_all := lw_g (lw_at lw_m5 98 rfl) rfl
theorem q1451 : (Jvm.Cond.soleField "WasteHouse$PartGraphs$Part" "covers") ∈ lw_all := lw_g (lw_at lw_m5 99 rfl) rfl
theorem q1452 : (Jvm.Cond.laysFinal "WasteHouse$PartGraphs$Part" "WasteHouse$PartGraphs$Part" "bars" "[I") ∈ lw_all := lw_g (lw_at lw_m5 100 rfl) rfl
theorem q1453 : (Jvm.Cond.soleField "WasteHouse$PartGraphs$Part" "bars") ∈ lw_all := lw_g (lw_at lw_m5 101 rfl) rfl
theorem q1454 : (Jvm.Cond.lays "WasteHouse$PartGraphs$Part" "WasteHouse$PartGraphs$Part" "hazards" "I") ∈ lw_all := lw_g (lw_at lw_m5 102 rfl) rfl
theorem q1455 : (Jvm.Cond.soleField "WasteHouse$PartGraphs$Part" "hazards") ∈ lw_all := lw_g (lw_at lw_m5 103 rfl) rfl
theorem q1456 : (Jvm.Cond.lays "WasteHouse$PartGraphs$Part" "WasteHouse$PartGraphs$Part" "family" "I") ∈ lw_all := lw_g (lw_at lw_m5 104 rfl) rfl
theorem q1457 : (Jvm.Cond.soleField "WasteHouse$PartGraphs$Part" "family") ∈ lw_all := lw_g (lw_at lw_m5 105 rfl) rfl
theorem q1458 : (Jvm.Cond.lays "WasteHouse$PartGraphs$Part" "WasteHouse$PartGraphs$Part" "damage" "I") ∈ lw_all := lw_g (lw_at lw_m5 106 rfl) rfl
theorem q1459 : (Jvm.Cond.soleField "WasteHouse$PartGraphs$Part" "damage") ∈ lw_all := lw_g (lw_at lw_m5 107 rfl) rfl
theorem q1460 : (Jvm.Cond.superclass "WasteHouse$PartGraphs$Part" "java/lang/Object") ∈ lw_all := lw_g (lw_at lw_m5 108 rfl) rfl
theorem q1998 : (Jvm.Cond.selects "WasteHouse$PartGraphs$Part" ({ cls := "java/lang/Object", name := "getClass", desc := "()Ljava/lang/Class;" } : Jvm.MethodName) ({ cls := "java/lang/Object", name := "getClass", desc := "()Ljava/lang/Class;" } : Jvm.MethodName)) ∈ lw_all := lw_g (lw_at lw_m7 166 rfl) rfl
theorem q3108 : (Jvm.Cond.selects "WasteHouse$PartGraphs$Part" ({ cls := "java/lang/Object", name := "equals", desc := "(Ljava/lang/Object;)Z" } : Jvm.MethodName) ({ cls := "java/lang/Object", name := "equals", desc := "(Ljava/lang/Object;)Z" } : Jvm.MethodName)) ∈ lw_all := lw_g (lw_at lw_m12 76 rfl) rfl
theorem q3626 : (Jvm.Cond.selects "WasteHouse$PartGraphs$Part" ({ cls := "java/lang/Object", name := "hashCode", desc := "()I" } : Jvm.MethodName) ({ cls := "java/lang/Object", name := "hashCode", desc := "()I" } : Jvm.MethodName)) ∈ lw_all := lw_g (lw_at lw_m14 114 rfl) rfl
theorem q5578 : (Jvm.Cond.instanceMethod ({ cls := "WasteHouse$PartGraphs$Part", name := "isFree", desc := "(I)Z" } : Jvm.MethodName)) ∈ lw_all := lw_g (lw_at lw_m22 146 rfl) rfl
theorem q5579 : (Jvm.Cond.selects "WasteHouse$PartGraphs$Part" ({ cls := "WasteHouse$PartGraphs$Part", name := "isFree", desc := "(I)Z" } : Jvm.MethodName) ({ cls := "WasteHouse$PartGraphs$Part", name := "isFree", desc := "(I)Z" } : Jvm.MethodName)) ∈ lw_all := lw_g (lw_at lw_m22 147 rfl) rfl
theorem q5580 : (Jvm.Cond.code ({ cls := "WasteHouse$PartGraphs$Part", name := "isFree", desc := "(I)Z" } : Jvm.MethodName) prog_28_method_6_code (4 : Nat) (Option.some Jvm.ClassFile.FieldType.boolean)) ∈ lw_all := lw_g (lw_at lw_m22 148 rfl) rfl
theorem q5581 : (Jvm.Cond.methodLink "WasteHouse$PartGraphs$Part" (44 : Nat) ({ cls := "WasteHouse$PartGraphs$Part", name := "isPlain", desc := "(I)Z" } : Jvm.MethodName)) ∈ lw_all := lw_g (lw_at lw_m22 149 rfl) rfl
theorem q5582 : (Jvm.Cond.instanceMethod ({ cls := "WasteHouse$PartGraphs$Part", name := "isPlain", desc := "(I)Z" } : Jvm.MethodName)) ∈ lw_all := lw_g (lw_at lw_m22 150 rfl) rfl
theorem q5583 : (Jvm.Cond.selects "WasteHouse$PartGraphs$Part" ({ cls := "WasteHouse$PartGraphs$Part", name := "isPlain", desc := "(I)Z" } : Jvm.MethodName) ({ cls := "WasteHouse$PartGraphs$Part", name := "isPlain", desc := "(I)Z" } : Jvm.MethodName)) ∈ lw_all := lw_g (lw_at lw_m22 151 rfl) rfl
theorem q5584 : (Jvm.Cond.code ({ cls := "WasteHouse$PartGraphs$Part", name := "isPlain", desc := "(I)Z" } : Jvm.MethodName) prog_28_method_5_code (2 : Nat) (Option.some Jvm.ClassFile.FieldType.boolean)) ∈ lw_all := lw_g (lw_at lw_m22 152 rfl) rfl
theorem q5865 : (Jvm.Cond.instanceMethod ({ cls := "WasteHouse$PartGraphs$Part", name := "set", desc := "(II)V" } : Jvm.MethodName)) ∈ lw_all := lw_g (lw_at lw_m23 193 rfl) rfl
theorem q5866 : (Jvm.Cond.selects "WasteHouse$PartGraphs$Part" ({ cls := "WasteHouse$PartGraphs$Part", name := "set", desc := "(II)V" } : Jvm.MethodName) ({ cls := "WasteHouse$PartGraphs$Part", name := "set", desc := "(II)V" } : Jvm.MethodName)) ∈ lw_all := lw_g (lw_at lw_m23 194 rfl) rfl
theorem q5867 : (Jvm.Cond.code ({ cls := "WasteHouse$PartGraphs$Part", name := "set", desc := "(II)V" } : Jvm.MethodName) prog_28_method_2_code (4 : Nat) (Option.none : Option Jvm.ClassFile.FieldType)) ∈ lw_all := lw_g (lw_at lw_m23 195 rfl) rfl
theorem q5912 : (Jvm.Cond.instanceMethod ({ cls := "WasteHouse$PartGraphs$Part", name := "copy", desc := "(LWasteHouse$PartGraphs$Part;)V" } : Jvm.MethodName)) ∈ lw_all := lw_g (lw_at lw_m24 0 rfl) rfl
theorem q5913 : (Jvm.Cond.selects "WasteHouse$PartGraphs$Part" ({ cls := "WasteHouse$PartGraphs$Part", name := "copy", desc := "(LWasteHouse$PartGraphs$Part;)V" } : Jvm.MethodName) ({ cls := "WasteHouse$PartGraphs$Part", name := "copy", desc := "(LWasteHouse$PartGraphs$Part;)V" } : Jvm.MethodName)) ∈ lw_all := lw_g (lw_at lw_m24 1 rfl) rfl
theorem q5914 : (Jvm.Cond.code ({ cls := "WasteHouse$PartGraphs$Part", name := "copy", desc := "(LWasteHouse$PartGraphs$Part;)V" } : Jvm.MethodName) prog_28_method_3_code (2 : Nat) (Option.none : Option Jvm.ClassFile.FieldType)) ∈ lw_all := lw_g (lw_at lw_m24 2 rfl) rfl
theorem q5915 : (Jvm.Cond.methodLink "WasteHouse$PartGraphs$Part" (34 : Nat) ({ cls := "WasteHouse$PartGraphs$Part", name := "set", desc := "(II)V" } : Jvm.MethodName)) ∈ lw_all := lw_g (lw_at lw_m24 3 rfl) rfl
theorem q5916 : (Jvm.Cond.methodLink "WasteHouse$PartGraphs$Part" (38 : Nat) ({ cls := "java/lang/System", name := "arraycopy", desc := "(Ljava/lang/Object;ILjava/lang/Object;II)V" } : Jvm.MethodName)) ∈ lw_all := lw_g (lw_at lw_m24 4 rfl) rfl
theorem q5979 : (Jvm.Cond.instanceMethod ({ cls := "WasteHouse$PartGraphs$Part", name := "isAlike", desc := "(LWasteHouse$PartGraphs$Part;)Z" } : Jvm.MethodName)) ∈ lw_all := lw_g (lw_at lw_m24 67 rfl) rfl
theorem q5980 : (Jvm.Cond.selects "WasteHouse$PartGraphs$Part" ({ cls := "WasteHouse$PartGraphs$Part", name := "isAlike", desc := "(LWasteHouse$PartGraphs$Part;)Z" } : Jvm.MethodName) ({ cls := "WasteHouse$PartGraphs$Part", name := "isAlike", desc := "(LWasteHouse$PartGraphs$Part;)Z" } : Jvm.MethodName)) ∈ lw_all := lw_g (lw_at lw_m24 68 rfl) rfl
theorem q5981 : (Jvm.Cond.code ({ cls := "WasteHouse$PartGraphs$Part", name := "isAlike", desc := "(LWasteHouse$PartGraphs$Part;)Z" } : Jvm.MethodName) prog_28_method_4_code (2 : Nat) (Option.some Jvm.ClassFile.FieldType.boolean)) ∈ lw_all := lw_g (lw_at lw_m24 69 rfl) rfl
theorem q9623 : (Jvm.Cond.castable "WasteHouse$PartGraphs$Part" "java/lang/Object") ∈ lw_tbl := lw_at lw_m39 111 rfl
theorem in_X26 : ∀ w ∈ wsX260, w ∈ lw_all := lw_in wsX260 [1446, 1448, 1450, 1452, 1454, 1456, 1458] (by decide +kernel) (by decide +kernel)
