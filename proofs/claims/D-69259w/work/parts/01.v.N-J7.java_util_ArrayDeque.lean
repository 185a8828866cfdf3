/-! java/util/ArrayDeque -/
set_option maxRecDepth 100000
def RJ7 : String := "java/util/ArrayDeque"
def TJ7 : u_T := fun k => match k with
  | 0 => ("java/util/ArrayDeque", "elements", "[Ljava/lang/Object;", false)
  | 1 => ("java/util/ArrayDeque", "head", "I", false)
  | _ => ("java/util/ArrayDeque", "tail", "I", false)
def tyJ7 : Nat → FieldType := fun k => match k with
  | 0 => .array (.object "java/lang/Object")
  | 1 => .int
  | _ => .int
abbrev wsJ70 : List Cond := u_ws RJ7 TJ7 3
theorem nmJ7 : ∀ a, a < 3 → ∀ b, b < 3 → a ≠ b → (TJ7 a).2.1 ≠ (TJ7 b).2.1 := by decide +kernel
theorem tyJ7_ok : ∀ k, k < 3 → parseFieldDescriptor (TJ7 k).2.2.1 = some (tyJ7 k) := by decide +kernel
abbrev cJ7_init : ByteArray := prog_100_method_3_code
def yJ7_init : MethodName := ⟨RJ7, "<init>", "()V"⟩
def dkwJ7_init_0 : List UInt8 := [42, 183, 0, 42, 42, 16, 17, 189, 0, 47, 181, 0, 3, 177]
abbrev dktJ7_init_0 : List UInt8 := dkwJ7_init_0 ++ []
theorem dksJ7_init_0 : cJ7_init.data.toList.drop 0 = dktJ7_init_0 := by decide +kernel
theorem dJ7_init_0 : decode cJ7_init 0 = .ok (.aload_n 0, 1) := dk_42 (dk_at dksJ7_init_0 0 rfl rfl)
theorem dJ7_init_1 : decode cJ7_init 1 = .ok (.invokespecial 42, 3) := dk_183 0 42 (dk_at dksJ7_init_0 1 rfl rfl)
theorem dJ7_init_4 : decode cJ7_init 4 = .ok (.aload_n 0, 1) := dk_42 (dk_at dksJ7_init_0 4 rfl rfl)
theorem dJ7_init_5 : decode cJ7_init 5 = .ok (.bipush 17, 2) := dk_16 17 (dk_at dksJ7_init_0 5 rfl rfl)
theorem dJ7_init_7 : decode cJ7_init 7 = .ok (.anewarray 47, 3) := dk_189 0 47 (dk_at dksJ7_init_0 7 rfl rfl)
theorem dJ7_init_10 : decode cJ7_init 10 = .ok (.putfield 3, 3) := dk_181 0 3 (dk_at dksJ7_init_0 10 rfl rfl)
theorem dJ7_init_13 : decode cJ7_init 13 = .ok (.return_, 1) := dk_177 (dk_at dksJ7_init_0 13 rfl rfl)
abbrev cJ7_nonNullElementAt : ByteArray := prog_100_method_11_code
def yJ7_nonNullElementAt : MethodName := ⟨RJ7, "nonNullElementAt", "([Ljava/lang/Object;I)Ljava/lang/Object;"⟩
def dkwJ7_nonNullElementAt_0 : List UInt8 := [42, 27, 50, 77, 44, 199, 0, 11, 187, 0, 62, 89, 183, 0, 64, 191, 44, 176]
abbrev dktJ7_nonNullElementAt_0 : List UInt8 := dkwJ7_nonNullElementAt_0 ++ []
theorem dksJ7_nonNullElementAt_0 : cJ7_nonNullElementAt.data.toList.drop 0 = dktJ7_nonNullElementAt_0 := by decide +kernel
theorem dJ7_nonNullElementAt_0 : decode cJ7_nonNullElementAt 0 = .ok (.aload_n 0, 1) := dk_42 (dk_at dksJ7_nonNullElementAt_0 0 rfl rfl)
theorem dJ7_nonNullElementAt_1 : decode cJ7_nonNullElementAt 1 = .ok (.iload_n 1, 1) := dk_27 (dk_at dksJ7_nonNullElementAt_0 1 rfl rfl)
theorem dJ7_nonNullElementAt_2 : decode cJ7_nonNullElementAt 2 = .ok (.aaload, 1) := dk_50 (dk_at dksJ7_nonNullElementAt_0 2 rfl rfl)
theorem dJ7_nonNullElementAt_3 : decode cJ7_nonNullElementAt 3 = .ok (.astore_n 2, 1) := dk_77 (dk_at dksJ7_nonNullElementAt_0 3 rfl rfl)
theorem dJ7_nonNullElementAt_4 : decode cJ7_nonNullElementAt 4 = .ok (.aload_n 2, 1) := dk_44 (dk_at dksJ7_nonNullElementAt_0 4 rfl rfl)
theorem dJ7_nonNullElementAt_5 : decode cJ7_nonNullElementAt 5 = .ok (.ifnonnull 11, 3) := dk_199 0 11 (dk_at dksJ7_nonNullElementAt_0 5 rfl rfl)
theorem dJ7_nonNullElementAt_8 : decode cJ7_nonNullElementAt 8 = .ok (.new 62, 3) := dk_187 0 62 (dk_at dksJ7_nonNullElementAt_0 8 rfl rfl)
theorem dJ7_nonNullElementAt_11 : decode cJ7_nonNullElementAt 11 = .ok (.dup, 1) := dk_89 (dk_at dksJ7_nonNullElementAt_0 11 rfl rfl)
theorem dJ7_nonNullElementAt_12 : decode cJ7_nonNullElementAt 12 = .ok (.invokespecial 64, 3) := dk_183 0 64 (dk_at dksJ7_nonNullElementAt_0 12 rfl rfl)
theorem dJ7_nonNullElementAt_15 : decode cJ7_nonNullElementAt 15 = .ok (.athrow, 1) := dk_191 (dk_at dksJ7_nonNullElementAt_0 15 rfl rfl)
theorem dJ7_nonNullElementAt_16 : decode cJ7_nonNullElementAt 16 = .ok (.aload_n 2, 1) := dk_44 (dk_at dksJ7_nonNullElementAt_0 16 rfl rfl)
theorem dJ7_nonNullElementAt_17 : decode cJ7_nonNullElementAt 17 = .ok (.areturn, 1) := dk_176 (dk_at dksJ7_nonNullElementAt_0 17 rfl rfl)
abbrev cJ7_inc : ByteArray := prog_100_method_6_code
def yJ7_inc : MethodName := ⟨RJ7, "inc", "(II)I"⟩
def dkwJ7_inc_0 : List UInt8 := [132, 0, 1, 26, 27, 161, 0, 5, 3, 59, 26, 172]
abbrev dktJ7_inc_0 : List UInt8 := dkwJ7_inc_0 ++ []
theorem dksJ7_inc_0 : cJ7_inc.data.toList.drop 0 = dktJ7_inc_0 := by decide +kernel
theorem dJ7_inc_0 : decode cJ7_inc 0 = .ok (.iinc 0 1, 3) := dk_132 0 1 (dk_at dksJ7_inc_0 0 rfl rfl)
theorem dJ7_inc_3 : decode cJ7_inc 3 = .ok (.iload_n 0, 1) := dk_26 (dk_at dksJ7_inc_0 3 rfl rfl)
theorem dJ7_inc_4 : decode cJ7_inc 4 = .ok (.iload_n 1, 1) := dk_27 (dk_at dksJ7_inc_0 4 rfl rfl)
theorem dJ7_inc_5 : decode cJ7_inc 5 = .ok (.if_icmp .lt 5, 3) := dk_161 0 5 (dk_at dksJ7_inc_0 5 rfl rfl)
theorem dJ7_inc_8 : decode cJ7_inc 8 = .ok (.iconst 0, 1) := dk_3 (dk_at dksJ7_inc_0 8 rfl rfl)
theorem dJ7_inc_9 : decode cJ7_inc 9 = .ok (.istore_n 0, 1) := dk_59 (dk_at dksJ7_inc_0 9 rfl rfl)
theorem dJ7_inc_10 : decode cJ7_inc 10 = .ok (.iload_n 0, 1) := dk_26 (dk_at dksJ7_inc_0 10 rfl rfl)
theorem dJ7_inc_11 : decode cJ7_inc 11 = .ok (.ireturn, 1) := dk_172 (dk_at dksJ7_inc_0 11 rfl rfl)
abbrev cJ7_addLast : ByteArray := prog_100_method_13_code
def yJ7_addLast : MethodName := ⟨RJ7, "addLast", "(Ljava/lang/Object;)V"⟩
def dkwJ7_addLast_2 : List UInt8 := [182, 0, 71, 177]
abbrev dktJ7_addLast_2 : List UInt8 := dkwJ7_addLast_2 ++ []
def dkwJ7_addLast_1 : List UInt8 := [42, 180, 0, 24, 42, 42, 180, 0, 20, 44, 190, 184, 0, 74, 90, 181, 0, 20, 160, 0, 8, 42, 4]
abbrev dktJ7_addLast_1 : List UInt8 := dkwJ7_addLast_1 ++ dktJ7_addLast_2
def dkwJ7_addLast_0 : List UInt8 := [43, 199, 0, 11, 187, 0, 65, 89, 183, 0, 67, 191, 42, 180, 0, 3, 77, 44, 42, 180, 0, 20, 43, 83]
abbrev dktJ7_addLast_0 : List UInt8 := dkwJ7_addLast_0 ++ dktJ7_addLast_1
theorem dksJ7_addLast_0 : cJ7_addLast.data.toList.drop 0 = dktJ7_addLast_0 := by decide +kernel
theorem dksJ7_addLast_1 : cJ7_addLast.data.toList.drop 24 = dktJ7_addLast_1 := dk_seg dksJ7_addLast_0 24 rfl rfl
theorem dksJ7_addLast_2 : cJ7_addLast.data.toList.drop 47 = dktJ7_addLast_2 := dk_seg dksJ7_addLast_1 23 rfl rfl
theorem dJ7_addLast_0 : decode cJ7_addLast 0 = .ok (.aload_n 1, 1) := dk_43 (dk_at dksJ7_addLast_0 0 rfl rfl)
theorem dJ7_addLast_1 : decode cJ7_addLast 1 = .ok (.ifnonnull 11, 3) := dk_199 0 11 (dk_at dksJ7_addLast_0 1 rfl rfl)
theorem dJ7_addLast_4 : decode cJ7_addLast 4 = .ok (.new 65, 3) := dk_187 0 65 (dk_at dksJ7_addLast_0 4 rfl rfl)
theorem dJ7_addLast_7 : decode cJ7_addLast 7 = .ok (.dup, 1) := dk_89 (dk_at dksJ7_addLast_0 7 rfl rfl)
theorem dJ7_addLast_8 : decode cJ7_addLast 8 = .ok (.invokespecial 67, 3) := dk_183 0 67 (dk_at dksJ7_addLast_0 8 rfl rfl)
theorem dJ7_addLast_11 : decode cJ7_addLast 11 = .ok (.athrow, 1) := dk_191 (dk_at dksJ7_addLast_0 11 rfl rfl)
theorem dJ7_addLast_12 : decode cJ7_addLast 12 = .ok (.aload_n 0, 1) := dk_42 (dk_at dksJ7_addLast_0 12 rfl rfl)
theorem dJ7_addLast_13 : decode cJ7_addLast 13 = .ok (.getfield 3, 3) := dk_180 0 3 (dk_at dksJ7_addLast_0 13 rfl rfl)
theorem dJ7_addLast_16 : decode cJ7_addLast 16 = .ok (.astore_n 2, 1) := dk_77 (dk_at dksJ7_addLast_0 16 rfl rfl)
theorem dJ7_addLast_17 : decode cJ7_addLast 17 = .ok (.aload_n 2, 1) := dk_44 (dk_at dksJ7_addLast_0 17 rfl rfl)
theorem dJ7_addLast_18 : decode cJ7_addLast 18 = .ok (.aload_n 0, 1) := dk_42 (dk_at dksJ7_addLast_0 18 rfl rfl)
theorem dJ7_addLast_19 : decode cJ7_addLast 19 = .ok (.getfield 20, 3) := dk_180 0 20 (dk_at dksJ7_addLast_0 19 rfl rfl)
theorem dJ7_addLast_22 : decode cJ7_addLast 22 = .ok (.aload_n 1, 1) := dk_43 (dk_at dksJ7_addLast_0 22 rfl rfl)
theorem dJ7_addLast_23 : decode cJ7_addLast 23 = .ok (.aastore, 1) := dk_83 (dk_at dksJ7_addLast_0 23 rfl rfl)
theorem dJ7_addLast_24 : decode cJ7_addLast 24 = .ok (.aload_n 0, 1) := dk_42 (dk_at dksJ7_addLast_1 0 rfl rfl)
theorem dJ7_addLast_25 : decode cJ7_addLast 25 = .ok (.getfield 24, 3) := dk_180 0 24 (dk_at dksJ7_addLast_1 1 rfl rfl)
theorem dJ7_addLast_28 : decode cJ7_addLast 28 = .ok (.aload_n 0, 1) := dk_42 (dk_at dksJ7_addLast_1 4 rfl rfl)
theorem dJ7_addLast_29 : decode cJ7_addLast 29 = .ok (.aload_n 0, 1) := dk_42 (dk_at dksJ7_addLast_1 5 rfl rfl)
theorem dJ7_addLast_30 : decode cJ7_addLast 30 = .ok (.getfield 20, 3) := dk_180 0 20 (dk_at dksJ7_addLast_1 6 rfl rfl)
theorem dJ7_addLast_33 : decode cJ7_addLast 33 = .ok (.aload_n 2, 1) := dk_44 (dk_at dksJ7_addLast_1 9 rfl rfl)
theorem dJ7_addLast_34 : decode cJ7_addLast 34 = .ok (.arraylength, 1) := dk_190 (dk_at dksJ7_addLast_1 10 rfl rfl)
theorem dJ7_addLast_35 : decode cJ7_addLast 35 = .ok (.invokestatic 74, 3) := dk_184 0 74 (dk_at dksJ7_addLast_1 11 rfl rfl)
theorem dJ7_addLast_38 : decode cJ7_addLast 38 = .ok (.dup_x1, 1) := dk_90 (dk_at dksJ7_addLast_1 14 rfl rfl)
theorem dJ7_addLast_39 : decode cJ7_addLast 39 = .ok (.putfield 20, 3) := dk_181 0 20 (dk_at dksJ7_addLast_1 15 rfl rfl)
theorem dJ7_addLast_42 : decode cJ7_addLast 42 = .ok (.if_icmp .ne 8, 3) := dk_160 0 8 (dk_at dksJ7_addLast_1 18 rfl rfl)
theorem dJ7_addLast_45 : decode cJ7_addLast 45 = .ok (.aload_n 0, 1) := dk_42 (dk_at dksJ7_addLast_1 21 rfl rfl)
theorem dJ7_addLast_46 : decode cJ7_addLast 46 = .ok (.iconst 1, 1) := dk_4 (dk_at dksJ7_addLast_1 22 rfl rfl)
theorem dJ7_addLast_47 : decode cJ7_addLast 47 = .ok (.invokevirtual 71, 3) := dk_182 0 71 (dk_at dksJ7_addLast_2 0 rfl rfl)
theorem dJ7_addLast_50 : decode cJ7_addLast 50 = .ok (.return_, 1) := dk_177 (dk_at dksJ7_addLast_2 3 rfl rfl)
abbrev cJ7_grow : ByteArray := prog_100_method_1_code
def yJ7_grow : MethodName := ⟨RJ7, "grow", "(I)V"⟩
def dkwJ7_grow_7 : List UInt8 := [177]
abbrev dktJ7_grow_7 : List UInt8 := dkwJ7_grow_7 ++ []
def dkwJ7_grow_6 : List UInt8 := [181, 0, 24, 54, 8, 21, 7, 21, 8, 162, 0, 15, 25, 5, 21, 7, 1, 83, 132, 7, 1, 167, 255, 240]
abbrev dktJ7_grow_6 : List UInt8 := dkwJ7_grow_6 ++ dktJ7_grow_7
def dkwJ7_grow_5 : List UInt8 := [42, 180, 0, 24, 100, 184, 0, 27, 42, 180, 0, 24, 54, 7, 42, 89, 180, 0, 24, 21, 6, 96, 90]
abbrev dktJ7_grow_5 : List UInt8 := dkwJ7_grow_5 ++ dktJ7_grow_6
def dkwJ7_grow_4 : List UInt8 := [198, 0, 71, 29, 28, 100, 54, 6, 25, 5, 42, 180, 0, 24, 25, 5, 42, 180, 0, 24, 21, 6, 96, 28]
abbrev dktJ7_grow_4 : List UInt8 := dkwJ7_grow_4 ++ dktJ7_grow_5
def dkwJ7_grow_3 : List UInt8 := [180, 0, 24, 161, 0, 24, 42, 180, 0, 20, 42, 180, 0, 24, 160, 0, 81, 25, 5, 42, 180, 0, 24, 50]
abbrev dktJ7_grow_3 : List UInt8 := dkwJ7_grow_3 ++ dktJ7_grow_4
def dkwJ7_grow_2 : List UInt8 := [182, 0, 10, 62, 42, 42, 180, 0, 3, 29, 184, 0, 14, 90, 181, 0, 3, 58, 5, 42, 180, 0, 20, 42]
abbrev dktJ7_grow_2 : List UInt8 := dkwJ7_grow_2 ++ dktJ7_grow_3
def dkwJ7_grow_1 : List UInt8 := [21, 4, 27, 161, 0, 15, 28, 21, 4, 96, 89, 62, 18, 9, 100, 158, 0, 11, 42, 27, 21, 4]
abbrev dktJ7_grow_1 : List UInt8 := dkwJ7_grow_1 ++ dktJ7_grow_2
def dkwJ7_grow_0 : List UInt8 := [42, 180, 0, 3, 190, 61, 28, 16, 64, 162, 0, 9, 28, 5, 96, 167, 0, 6, 28, 4, 122, 54, 4]
abbrev dktJ7_grow_0 : List UInt8 := dkwJ7_grow_0 ++ dktJ7_grow_1
theorem dksJ7_grow_0 : cJ7_grow.data.toList.drop 0 = dktJ7_grow_0 := by decide +kernel
theorem dksJ7_grow_1 : cJ7_grow.data.toList.drop 23 = dktJ7_grow_1 := dk_seg dksJ7_grow_0 23 rfl rfl
theorem dksJ7_grow_2 : cJ7_grow.data.toList.drop 45 = dktJ7_grow_2 := dk_seg dksJ7_grow_1 22 rfl rfl
theorem dksJ7_grow_3 : cJ7_grow.data.toList.drop 69 = dktJ7_grow_3 := dk_seg dksJ7_grow_2 24 rfl rfl
theorem dksJ7_grow_4 : cJ7_grow.data.toList.drop 93 = dktJ7_grow_4 := dk_seg dksJ7_grow_3 24 rfl rfl
theorem dksJ7_grow_5 : cJ7_grow.data.toList.drop 117 = dktJ7_grow_5 := dk_seg dksJ7_grow_4 24 rfl rfl
theorem dksJ7_grow_6 : cJ7_grow.data.toList.drop 140 = dktJ7_grow_6 := dk_seg dksJ7_grow_5 23 rfl rfl
theorem dksJ7_grow_7 : cJ7_grow.data.toList.drop 164 = dktJ7_grow_7 := dk_seg dksJ7_grow_6 24 rfl rfl
theorem dJ7_grow_0 : decode cJ7_grow 0 = .ok (.aload_n 0, 1) := dk_42 (dk_at dksJ7_grow_0 0 rfl rfl)
theorem dJ7_grow_1 : decode cJ7_grow 1 = .ok (.getfield 3, 3) := dk_180 0 3 (dk_at dksJ7_grow_0 1 rfl rfl)
theorem dJ7_grow_4 : decode cJ7_grow 4 = .ok (.arraylength, 1) := dk_190 (dk_at dksJ7_grow_0 4 rfl rfl)
theorem dJ7_grow_5 : decode cJ7_grow 5 = .ok (.istore_n 2, 1) := dk_61 (dk_at dksJ7_grow_0 5 rfl rfl)
theorem dJ7_grow_6 : decode cJ7_grow 6 = .ok (.iload_n 2, 1) := dk_28 (dk_at dksJ7_grow_0 6 rfl rfl)
theorem dJ7_grow_7 : decode cJ7_grow 7 = .ok (.bipush 64, 2) := dk_16 64 (dk_at dksJ7_grow_0 7 rfl rfl)
theorem dJ7_grow_9 : decode cJ7_grow 9 = .ok (.if_icmp .ge 9, 3) := dk_162 0 9 (dk_at dksJ7_grow_0 9 rfl rfl)
theorem dJ7_grow_12 : decode cJ7_grow 12 = .ok (.iload_n 2, 1) := dk_28 (dk_at dksJ7_grow_0 12 rfl rfl)
theorem dJ7_grow_13 : decode cJ7_grow 13 = .ok (.iconst 2, 1) := dk_5 (dk_at dksJ7_grow_0 13 rfl rfl)
theorem dJ7_grow_14 : decode cJ7_grow 14 = .ok (.iadd, 1) := dk_96 (dk_at dksJ7_grow_0 14 rfl rfl)
theorem dJ7_grow_15 : decode cJ7_grow 15 = .ok (.goto 6, 3) := dk_167 0 6 (dk_at dksJ7_grow_0 15 rfl rfl)
theorem dJ7_grow_18 : decode cJ7_grow 18 = .ok (.iload_n 2, 1) := dk_28 (dk_at dksJ7_grow_0 18 rfl rfl)
theorem dJ7_grow_19 : decode cJ7_grow 19 = .ok (.iconst 1, 1) := dk_4 (dk_at dksJ7_grow_0 19 rfl rfl)
theorem dJ7_grow_20 : decode cJ7_grow 20 = .ok (.ishr, 1) := dk_122 (dk_at dksJ7_grow_0 20 rfl rfl)
theorem dJ7_grow_21 : decode cJ7_grow 21 = .ok (.istore 4, 2) := dk_54 4 (dk_at dksJ7_grow_0 21 rfl rfl)
theorem dJ7_grow_23 : decode cJ7_grow 23 = .ok (.iload 4, 2) := dk_21 4 (dk_at dksJ7_grow_1 0 rfl rfl)
theorem dJ7_grow_25 : decode cJ7_grow 25 = .ok (.iload_n 1, 1) := dk_27 (dk_at dksJ7_grow_1 2 rfl rfl)
theorem dJ7_grow_26 : decode cJ7_grow 26 = .ok (.if_icmp .lt 15, 3) := dk_161 0 15 (dk_at dksJ7_grow_1 3 rfl rfl)
theorem dJ7_grow_29 : decode cJ7_grow 29 = .ok (.iload_n 2, 1) := dk_28 (dk_at dksJ7_grow_1 6 rfl rfl)
theorem dJ7_grow_30 : decode cJ7_grow 30 = .ok (.iload 4, 2) := dk_21 4 (dk_at dksJ7_grow_1 7 rfl rfl)
theorem dJ7_grow_32 : decode cJ7_grow 32 = .ok (.iadd, 1) := dk_96 (dk_at dksJ7_grow_1 9 rfl rfl)
theorem dJ7_grow_33 : decode cJ7_grow 33 = .ok (.dup, 1) := dk_89 (dk_at dksJ7_grow_1 10 rfl rfl)
theorem dJ7_grow_34 : decode cJ7_grow 34 = .ok (.istore_n 3, 1) := dk_62 (dk_at dksJ7_grow_1 11 rfl rfl)
theorem dJ7_grow_35 : decode cJ7_grow 35 = .ok (.ldc 9, 2) := dk_18 9 (dk_at dksJ7_grow_1 12 rfl rfl)
theorem dJ7_grow_37 : decode cJ7_grow 37 = .ok (.isub, 1) := dk_100 (dk_at dksJ7_grow_1 14 rfl rfl)
theorem dJ7_grow_38 : decode cJ7_grow 38 = .ok (.ifCond .le 11, 3) := dk_158 0 11 (dk_at dksJ7_grow_1 15 rfl rfl)
theorem dJ7_grow_41 : decode cJ7_grow 41 = .ok (.aload_n 0, 1) := dk_42 (dk_at dksJ7_grow_1 18 rfl rfl)
theorem dJ7_grow_42 : decode cJ7_grow 42 = .ok (.iload_n 1, 1) := dk_27 (dk_at dksJ7_grow_1 19 rfl rfl)
theorem dJ7_grow_43 : decode cJ7_grow 43 = .ok (.iload 4, 2) := dk_21 4 (dk_at dksJ7_grow_1 20 rfl rfl)
theorem dJ7_grow_45 : decode cJ7_grow 45 = .ok (.invokevirtual 10, 3) := dk_182 0 10 (dk_at dksJ7_grow_2 0 rfl rfl)
theorem dJ7_grow_48 : decode cJ7_grow 48 = .ok (.istore_n 3, 1) := dk_62 (dk_at dksJ7_grow_2 3 rfl rfl)
theorem dJ7_grow_49 : decode cJ7_grow 49 = .ok (.aload_n 0, 1) := dk_42 (dk_at dksJ7_grow_2 4 rfl rfl)
theorem dJ7_grow_50 : decode cJ7_grow 50 = .ok (.aload_n 0, 1) := dk_42 (dk_at dksJ7_grow_2 5 rfl rfl)
theorem dJ7_grow_51 : decode cJ7_grow 51 = .ok (.getfield 3, 3) := dk_180 0 3 (dk_at dksJ7_grow_2 6 rfl rfl)
theorem dJ7_grow_54 : decode cJ7_grow 54 = .ok (.iload_n 3, 1) := dk_29 (dk_at dksJ7_grow_2 9 rfl rfl)
theorem dJ7_grow_55 : decode cJ7_grow 55 = .ok (.invokestatic 14, 3) := dk_184 0 14 (dk_at dksJ7_grow_2 10 rfl rfl)
theorem dJ7_grow_58 : decode cJ7_grow 58 = .ok (.dup_x1, 1) := dk_90 (dk_at dksJ7_grow_2 13 rfl rfl)
theorem dJ7_grow_59 : decode cJ7_grow 59 = .ok (.putfield 3, 3) := dk_181 0 3 (dk_at dksJ7_grow_2 14 rfl rfl)
theorem dJ7_grow_62 : decode cJ7_grow 62 = .ok (.astore 5, 2) := dk_58 5 (dk_at dksJ7_grow_2 17 rfl rfl)
theorem dJ7_grow_64 : decode cJ7_grow 64 = .ok (.aload_n 0, 1) := dk_42 (dk_at dksJ7_grow_2 19 rfl rfl)
theorem dJ7_grow_65 : decode cJ7_grow 65 = .ok (.getfield 20, 3) := dk_180 0 20 (dk_at dksJ7_grow_2 20 rfl rfl)
theorem dJ7_grow_68 : decode cJ7_grow 68 = .ok (.aload_n 0, 1) := dk_42 (dk_at dksJ7_grow_2 23 rfl rfl)
theorem dJ7_grow_69 : decode cJ7_grow 69 = .ok (.getfield 24, 3) := dk_180 0 24 (dk_at dksJ7_grow_3 0 rfl rfl)
theorem dJ7_grow_72 : decode cJ7_grow 72 = .ok (.if_icmp .lt 24, 3) := dk_161 0 24 (dk_at dksJ7_grow_3 3 rfl rfl)
theorem dJ7_grow_75 : decode cJ7_grow 75 = .ok (.aload_n 0, 1) := dk_42 (dk_at dksJ7_grow_3 6 rfl rfl)
theorem dJ7_grow_76 : decode cJ7_grow 76 = .ok (.getfield 20, 3) := dk_180 0 20 (dk_at dksJ7_grow_3 7 rfl rfl)
theorem dJ7_grow_79 : decode cJ7_grow 79 = .ok (.aload_n 0, 1) := dk_42 (dk_at dksJ7_grow_3 10 rfl rfl)
theorem dJ7_grow_80 : decode cJ7_grow 80 = .ok (.getfield 24, 3) := dk_180 0 24 (dk_at dksJ7_grow_3 11 rfl rfl)
theorem dJ7_grow_83 : decode cJ7_grow 83 = .ok (.if_icmp .ne 81, 3) := dk_160 0 81 (dk_at dksJ7_grow_3 14 rfl rfl)
theorem dJ7_grow_86 : decode cJ7_grow 86 = .ok (.aload 5, 2) := dk_25 5 (dk_at dksJ7_grow_3 17 rfl rfl)
theorem dJ7_grow_88 : decode cJ7_grow 88 = .ok (.aload_n 0, 1) := dk_42 (dk_at dksJ7_grow_3 19 rfl rfl)
theorem dJ7_grow_89 : decode cJ7_grow 89 = .ok (.getfield 24, 3) := dk_180 0 24 (dk_at dksJ7_grow_3 20 rfl rfl)
theorem dJ7_grow_92 : decode cJ7_grow 92 = .ok (.aaload, 1) := dk_50 (dk_at dksJ7_grow_3 23 rfl rfl)
theorem dJ7_grow_93 : decode cJ7_grow 93 = .ok (.ifnull 71, 3) := dk_198 0 71 (dk_at dksJ7_grow_4 0 rfl rfl)
theorem dJ7_grow_96 : decode cJ7_grow 96 = .ok (.iload_n 3, 1) := dk_29 (dk_at dksJ7_grow_4 3 rfl rfl)
theorem dJ7_grow_97 : decode cJ7_grow 97 = .ok (.iload_n 2, 1) := dk_28 (dk_at dksJ7_grow_4 4 rfl rfl)
theorem dJ7_grow_98 : decode cJ7_grow 98 = .ok (.isub, 1) := dk_100 (dk_at dksJ7_grow_4 5 rfl rfl)
theorem dJ7_grow_99 : decode cJ7_grow 99 = .ok (.istore 6, 2) := dk_54 6 (dk_at dksJ7_grow_4 6 rfl rfl)
theorem dJ7_grow_101 : decode cJ7_grow 101 = .ok (.aload 5, 2) := dk_25 5 (dk_at dksJ7_grow_4 8 rfl rfl)
theorem dJ7_grow_103 : decode cJ7_grow 103 = .ok (.aload_n 0, 1) := dk_42 (dk_at dksJ7_grow_4 10 rfl rfl)
theorem dJ7_grow_104 : decode cJ7_grow 104 = .ok (.getfield 24, 3) := dk_180 0 24 (dk_at dksJ7_grow_4 11 rfl rfl)
theorem dJ7_grow_107 : decode cJ7_grow 107 = .ok (.aload 5, 2) := dk_25 5 (dk_at dksJ7_grow_4 14 rfl rfl)
theorem dJ7_grow_109 : decode cJ7_grow 109 = .ok (.aload_n 0, 1) := dk_42 (dk_at dksJ7_grow_4 16 rfl rfl)
theorem dJ7_grow_110 : decode cJ7_grow 110 = .ok (.getfield 24, 3) := dk_180 0 24 (dk_at dksJ7_grow_4 17 rfl rfl)
theorem dJ7_grow_113 : decode cJ7_grow 113 = .ok (.iload 6, 2) := dk_21 6 (dk_at dksJ7_grow_4 20 rfl rfl)
theorem dJ7_grow_115 : decode cJ7_grow 115 = .ok (.iadd, 1) := dk_96 (dk_at dksJ7_grow_4 22 rfl rfl)
theorem dJ7_grow_116 : decode cJ7_grow 116 = .ok (.iload_n 2, 1) := dk_28 (dk_at dksJ7_grow_4 23 rfl rfl)
theorem dJ7_grow_117 : decode cJ7_grow 117 = .ok (.aload_n 0, 1) := dk_42 (dk_at dksJ7_grow_5 0 rfl rfl)
theorem dJ7_grow_118 : decode cJ7_grow 118 = .ok (.getfield 24, 3) := dk_180 0 24 (dk_at dksJ7_grow_5 1 rfl rfl)
theorem dJ7_grow_121 : decode cJ7_grow 121 = .ok (.isub, 1) := dk_100 (dk_at dksJ7_grow_5 4 rfl rfl)
theorem dJ7_grow_122 : decode cJ7_grow 122 = .ok (.invokestatic 27, 3) := dk_184 0 27 (dk_at dksJ7_grow_5 5 rfl rfl)
theorem dJ7_grow_125 : decode cJ7_grow 125 = .ok (.aload_n 0, 1) := dk_42 (dk_at dksJ7_grow_5 8 rfl rfl)
theorem dJ7_grow_126 : decode cJ7_grow 126 = .ok (.getfield 24, 3) := dk_180 0 24 (dk_at dksJ7_grow_5 9 rfl rfl)
theorem dJ7_grow_129 : decode cJ7_grow 129 = .ok (.istore 7, 2) := dk_54 7 (dk_at dksJ7_grow_5 12 rfl rfl)
theorem dJ7_grow_131 : decode cJ7_grow 131 = .ok (.aload_n 0, 1) := dk_42 (dk_at dksJ7_grow_5 14 rfl rfl)
theorem dJ7_grow_132 : decode cJ7_grow 132 = .ok (.dup, 1) := dk_89 (dk_at dksJ7_grow_5 15 rfl rfl)
theorem dJ7_grow_133 : decode cJ7_grow 133 = .ok (.getfield 24, 3) := dk_180 0 24 (dk_at dksJ7_grow_5 16 rfl rfl)
theorem dJ7_grow_136 : decode cJ7_grow 136 = .ok (.iload 6, 2) := dk_21 6 (dk_at dksJ7_grow_5 19 rfl rfl)
theorem dJ7_grow_138 : decode cJ7_grow 138 = .ok (.iadd, 1) := dk_96 (dk_at dksJ7_grow_5 21 rfl rfl)
theorem dJ7_grow_139 : decode cJ7_grow 139 = .ok (.dup_x1, 1) := dk_90 (dk_at dksJ7_grow_5 22 rfl rfl)
theorem dJ7_grow_140 : decode cJ7_grow 140 = .ok (.putfield 24, 3) := dk_181 0 24 (dk_at dksJ7_grow_6 0 rfl rfl)
theorem dJ7_grow_143 : decode cJ7_grow 143 = .ok (.istore 8, 2) := dk_54 8 (dk_at dksJ7_grow_6 3 rfl rfl)
theorem dJ7_grow_145 : decode cJ7_grow 145 = .ok (.iload 7, 2) := dk_21 7 (dk_at dksJ7_grow_6 5 rfl rfl)
theorem dJ7_grow_147 : decode cJ7_grow 147 = .ok (.iload 8, 2) := dk_21 8 (dk_at dksJ7_grow_6 7 rfl rfl)
theorem dJ7_grow_149 : decode cJ7_grow 149 = .ok (.if_icmp .ge 15, 3) := dk_162 0 15 (dk_at dksJ7_grow_6 9 rfl rfl)
theorem dJ7_grow_152 : decode cJ7_grow 152 = .ok (.aload 5, 2) := dk_25 5 (dk_at dksJ7_grow_6 12 rfl rfl)
theorem dJ7_grow_154 : decode cJ7_grow 154 = .ok (.iload 7, 2) := dk_21 7 (dk_at dksJ7_grow_6 14 rfl rfl)
theorem dJ7_grow_156 : decode cJ7_grow 156 = .ok (.aconst_null, 1) := dk_1 (dk_at dksJ7_grow_6 16 rfl rfl)
theorem dJ7_grow_157 : decode cJ7_grow 157 = .ok (.aastore, 1) := dk_83 (dk_at dksJ7_grow_6 17 rfl rfl)
theorem dJ7_grow_158 : decode cJ7_grow 158 = .ok (.iinc 7 1, 3) := dk_132 7 1 (dk_at dksJ7_grow_6 18 rfl rfl)
theorem dJ7_grow_161 : decode cJ7_grow 161 = .ok (.goto (-16), 3) := dk_167 255 240 (dk_at dksJ7_grow_6 21 rfl rfl)
theorem dJ7_grow_164 : decode cJ7_grow 164 = .ok (.return_, 1) := dk_177 (dk_at dksJ7_grow_7 0 rfl rfl)
abbrev cJ7_newCapacity : ByteArray := prog_100_method_2_code
def yJ7_newCapacity : MethodName := ⟨RJ7, "newCapacity", "(II)I"⟩
def dkwJ7_newCapacity_2 : List UInt8 := [18, 9, 100, 156, 0, 9, 29, 28, 96, 167, 0, 5, 18, 9, 172]
abbrev dktJ7_newCapacity_2 : List UInt8 := dkwJ7_newCapacity_2 ++ []
def dkwJ7_newCapacity_1 : List UInt8 := [187, 0, 33, 89, 18, 35, 183, 0, 37, 191, 18, 41, 172, 27, 28, 164, 0, 6, 21, 4, 172, 29, 28, 96]
abbrev dktJ7_newCapacity_1 : List UInt8 := dkwJ7_newCapacity_1 ++ dktJ7_newCapacity_2
def dkwJ7_newCapacity_0 : List UInt8 := [42, 180, 0, 3, 190, 62, 29, 27, 96, 89, 54, 4, 18, 9, 100, 158, 0, 21, 21, 4, 156, 0, 13]
abbrev dktJ7_newCapacity_0 : List UInt8 := dkwJ7_newCapacity_0 ++ dktJ7_newCapacity_1
theorem dksJ7_newCapacity_0 : cJ7_newCapacity.data.toList.drop 0 = dktJ7_newCapacity_0 := by decide +kernel
theorem dksJ7_newCapacity_1 : cJ7_newCapacity.data.toList.drop 23 = dktJ7_newCapacity_1 := dk_seg dksJ7_newCapacity_0 23 rfl rfl
theorem dksJ7_newCapacity_2 : cJ7_newCapacity.data.toList.drop 47 = dktJ7_newCapacity_2 := dk_seg dksJ7_newCapacity_1 24 rfl rfl
theorem dJ7_newCapacity_0 : decode cJ7_newCapacity 0 = .ok (.aload_n 0, 1) := dk_42 (dk_at dksJ7_newCapacity_0 0 rfl rfl)
theorem dJ7_newCapacity_1 : decode cJ7_newCapacity 1 = .ok (.getfield 3, 3) := dk_180 0 3 (dk_at dksJ7_newCapacity_0 1 rfl rfl)
theorem dJ7_newCapacity_4 : decode cJ7_newCapacity 4 = .ok (.arraylength, 1) := dk_190 (dk_at dksJ7_newCapacity_0 4 rfl rfl)
theorem dJ7_newCapacity_5 : decode cJ7_newCapacity 5 = .ok (.istore_n 3, 1) := dk_62 (dk_at dksJ7_newCapacity_0 5 rfl rfl)
theorem dJ7_newCapacity_6 : decode cJ7_newCapacity 6 = .ok (.iload_n 3, 1) := dk_29 (dk_at dksJ7_newCapacity_0 6 rfl rfl)
theorem dJ7_newCapacity_7 : decode cJ7_newCapacity 7 = .ok (.iload_n 1, 1) := dk_27 (dk_at dksJ7_newCapacity_0 7 rfl rfl)
theorem dJ7_newCapacity_8 : decode cJ7_newCapacity 8 = .ok (.iadd, 1) := dk_96 (dk_at dksJ7_newCapacity_0 8 rfl rfl)
theorem dJ7_newCapacity_9 : decode cJ7_newCapacity 9 = .ok (.dup, 1) := dk_89 (dk_at dksJ7_newCapacity_0 9 rfl rfl)
theorem dJ7_newCapacity_10 : decode cJ7_newCapacity 10 = .ok (.istore 4, 2) := dk_54 4 (dk_at dksJ7_newCapacity_0 10 rfl rfl)
theorem dJ7_newCapacity_12 : decode cJ7_newCapacity 12 = .ok (.ldc 9, 2) := dk_18 9 (dk_at dksJ7_newCapacity_0 12 rfl rfl)
theorem dJ7_newCapacity_14 : decode cJ7_newCapacity 14 = .ok (.isub, 1) := dk_100 (dk_at dksJ7_newCapacity_0 14 rfl rfl)
theorem dJ7_newCapacity_15 : decode cJ7_newCapacity 15 = .ok (.ifCond .le 21, 3) := dk_158 0 21 (dk_at dksJ7_newCapacity_0 15 rfl rfl)
theorem dJ7_newCapacity_18 : decode cJ7_newCapacity 18 = .ok (.iload 4, 2) := dk_21 4 (dk_at dksJ7_newCapacity_0 18 rfl rfl)
theorem dJ7_newCapacity_20 : decode cJ7_newCapacity 20 = .ok (.ifCond .ge 13, 3) := dk_156 0 13 (dk_at dksJ7_newCapacity_0 20 rfl rfl)
theorem dJ7_newCapacity_23 : decode cJ7_newCapacity 23 = .ok (.new 33, 3) := dk_187 0 33 (dk_at dksJ7_newCapacity_1 0 rfl rfl)
theorem dJ7_newCapacity_26 : decode cJ7_newCapacity 26 = .ok (.dup, 1) := dk_89 (dk_at dksJ7_newCapacity_1 3 rfl rfl)
theorem dJ7_newCapacity_27 : decode cJ7_newCapacity 27 = .ok (.ldc 35, 2) := dk_18 35 (dk_at dksJ7_newCapacity_1 4 rfl rfl)
theorem dJ7_newCapacity_29 : decode cJ7_newCapacity 29 = .ok (.invokespecial 37, 3) := dk_183 0 37 (dk_at dksJ7_newCapacity_1 6 rfl rfl)
theorem dJ7_newCapacity_32 : decode cJ7_newCapacity 32 = .ok (.athrow, 1) := dk_191 (dk_at dksJ7_newCapacity_1 9 rfl rfl)
theorem dJ7_newCapacity_33 : decode cJ7_newCapacity 33 = .ok (.ldc 41, 2) := dk_18 41 (dk_at dksJ7_newCapacity_1 10 rfl rfl)
theorem dJ7_newCapacity_35 : decode cJ7_newCapacity 35 = .ok (.ireturn, 1) := dk_172 (dk_at dksJ7_newCapacity_1 12 rfl rfl)
theorem dJ7_newCapacity_36 : decode cJ7_newCapacity 36 = .ok (.iload_n 1, 1) := dk_27 (dk_at dksJ7_newCapacity_1 13 rfl rfl)
theorem dJ7_newCapacity_37 : decode cJ7_newCapacity 37 = .ok (.iload_n 2, 1) := dk_28 (dk_at dksJ7_newCapacity_1 14 rfl rfl)
theorem dJ7_newCapacity_38 : decode cJ7_newCapacity 38 = .ok (.if_icmp .le 6, 3) := dk_164 0 6 (dk_at dksJ7_newCapacity_1 15 rfl rfl)
theorem dJ7_newCapacity_41 : decode cJ7_newCapacity 41 = .ok (.iload 4, 2) := dk_21 4 (dk_at dksJ7_newCapacity_1 18 rfl rfl)
theorem dJ7_newCapacity_43 : decode cJ7_newCapacity 43 = .ok (.ireturn, 1) := dk_172 (dk_at dksJ7_newCapacity_1 20 rfl rfl)
theorem dJ7_newCapacity_44 : decode cJ7_newCapacity 44 = .ok (.iload_n 3, 1) := dk_29 (dk_at dksJ7_newCapacity_1 21 rfl rfl)
theorem dJ7_newCapacity_45 : decode cJ7_newCapacity 45 = .ok (.iload_n 2, 1) := dk_28 (dk_at dksJ7_newCapacity_1 22 rfl rfl)
theorem dJ7_newCapacity_46 : decode cJ7_newCapacity 46 = .ok (.iadd, 1) := dk_96 (dk_at dksJ7_newCapacity_1 23 rfl rfl)
theorem dJ7_newCapacity_47 : decode cJ7_newCapacity 47 = .ok (.ldc 9, 2) := dk_18 9 (dk_at dksJ7_newCapacity_2 0 rfl rfl)
theorem dJ7_newCapacity_49 : decode cJ7_newCapacity 49 = .ok (.isub, 1) := dk_100 (dk_at dksJ7_newCapacity_2 2 rfl rfl)
theorem dJ7_newCapacity_50 : decode cJ7_newCapacity 50 = .ok (.ifCond .ge 9, 3) := dk_156 0 9 (dk_at dksJ7_newCapacity_2 3 rfl rfl)
theorem dJ7_newCapacity_53 : decode cJ7_newCapacity 53 = .ok (.iload_n 3, 1) := dk_29 (dk_at dksJ7_newCapacity_2 6 rfl rfl)
theorem dJ7_newCapacity_54 : decode cJ7_newCapacity 54 = .ok (.iload_n 2, 1) := dk_28 (dk_at dksJ7_newCapacity_2 7 rfl rfl)
theorem dJ7_newCapacity_55 : decode cJ7_newCapacity 55 = .ok (.iadd, 1) := dk_96 (dk_at dksJ7_newCapacity_2 8 rfl rfl)
theorem dJ7_newCapacity_56 : decode cJ7_newCapacity 56 = .ok (.goto 5, 3) := dk_167 0 5 (dk_at dksJ7_newCapacity_2 9 rfl rfl)
theorem dJ7_newCapacity_59 : decode cJ7_newCapacity 59 = .ok (.ldc 9, 2) := dk_18 9 (dk_at dksJ7_newCapacity_2 12 rfl rfl)
theorem dJ7_newCapacity_61 : decode cJ7_newCapacity 61 = .ok (.ireturn, 1) := dk_172 (dk_at dksJ7_newCapacity_2 14 rfl rfl)
abbrev cJ7_delete : ByteArray := prog_100_method_36_code
def yJ7_delete : MethodName := ⟨RJ7, "delete", "(I)Z"⟩
def dkwJ7_delete_8 : List UInt8 := [4, 172]
abbrev dktJ7_delete_8 : List UInt8 := dkwJ7_delete_8 ++ []
def dkwJ7_delete_7 : List UInt8 := [4, 100, 44, 3, 50, 83, 44, 4, 44, 3, 21, 5, 4, 100, 184, 0, 27, 44, 42, 180, 0, 20, 1, 83]
abbrev dktJ7_delete_7 : List UInt8 := dkwJ7_delete_7 ++ dktJ7_delete_8
def dkwJ7_delete_6 : List UInt8 := [21, 7, 184, 0, 27, 167, 0, 36, 44, 27, 4, 96, 44, 27, 29, 27, 4, 96, 100, 184, 0, 27, 44, 29]
abbrev dktJ7_delete_6 : List UInt8 := dkwJ7_delete_6 ++ dktJ7_delete_7
def dkwJ7_delete_5 : List UInt8 := [21, 5, 29, 184, 0, 68, 181, 0, 20, 27, 42, 180, 0, 20, 163, 0, 17, 44, 27, 4, 96, 44, 27]
abbrev dktJ7_delete_5 : List UInt8 := dkwJ7_delete_5 ++ dktJ7_delete_6
def dkwJ7_delete_4 : List UInt8 := [96, 100, 184, 0, 27, 44, 21, 4, 1, 83, 42, 21, 4, 29, 184, 0, 74, 181, 0, 24, 3, 172, 42]
abbrev dktJ7_delete_4 : List UInt8 := dkwJ7_delete_4 ++ dktJ7_delete_5
def dkwJ7_delete_3 : List UInt8 := [27, 184, 0, 27, 44, 3, 44, 29, 4, 100, 50, 83, 44, 21, 4, 44, 21, 4, 4, 96, 21, 6, 27, 4]
abbrev dktJ7_delete_3 : List UInt8 := dkwJ7_delete_3 ++ dktJ7_delete_4
def dkwJ7_delete_2 : List UInt8 := [27, 163, 0, 19, 44, 21, 4, 44, 21, 4, 4, 96, 21, 6, 184, 0, 27, 167, 0, 36, 44, 3, 44, 4]
abbrev dktJ7_delete_2 : List UInt8 := dkwJ7_delete_2 ++ dktJ7_delete_3
def dkwJ7_delete_1 : List UInt8 := [180, 0, 20, 89, 54, 5, 27, 29, 184, 0, 127, 4, 100, 54, 7, 21, 6, 21, 7, 162, 0, 75, 21, 4]
abbrev dktJ7_delete_1 : List UInt8 := dkwJ7_delete_1 ++ dktJ7_delete_2
def dkwJ7_delete_0 : List UInt8 := [42, 180, 0, 3, 77, 44, 190, 62, 27, 42, 180, 0, 24, 89, 54, 4, 29, 184, 0, 127, 54, 6, 42]
abbrev dktJ7_delete_0 : List UInt8 := dkwJ7_delete_0 ++ dktJ7_delete_1
theorem dksJ7_delete_0 : cJ7_delete.data.toList.drop 0 = dktJ7_delete_0 := by decide +kernel
theorem dksJ7_delete_1 : cJ7_delete.data.toList.drop 23 = dktJ7_delete_1 := dk_seg dksJ7_delete_0 23 rfl rfl
theorem dksJ7_delete_2 : cJ7_delete.data.toList.drop 47 = dktJ7_delete_2 := dk_seg dksJ7_delete_1 24 rfl rfl
theorem dksJ7_delete_3 : cJ7_delete.data.toList.drop 71 = dktJ7_delete_3 := dk_seg dksJ7_delete_2 24 rfl rfl
theorem dksJ7_delete_4 : cJ7_delete.data.toList.drop 95 = dktJ7_delete_4 := dk_seg dksJ7_delete_3 24 rfl rfl
theorem dksJ7_delete_5 : cJ7_delete.data.toList.drop 118 = dktJ7_delete_5 := dk_seg dksJ7_delete_4 23 rfl rfl
theorem dksJ7_delete_6 : cJ7_delete.data.toList.drop 141 = dktJ7_delete_6 := dk_seg dksJ7_delete_5 23 rfl rfl
theorem dksJ7_delete_7 : cJ7_delete.data.toList.drop 165 = dktJ7_delete_7 := dk_seg dksJ7_delete_6 24 rfl rfl
theorem dksJ7_delete_8 : cJ7_delete.data.toList.drop 189 = dktJ7_delete_8 := dk_seg dksJ7_delete_7 24 rfl rfl
theorem dJ7_delete_0 : decode cJ7_delete 0 = .ok (.aload_n 0, 1) := dk_42 (dk_at dksJ7_delete_0 0 rfl rfl)
theorem dJ7_delete_1 : decode cJ7_delete 1 = .ok (.getfield 3, 3) := dk_180 0 3 (dk_at dksJ7_delete_0 1 rfl rfl)
theorem dJ7_delete_4 : decode cJ7_delete 4 = .ok (.astore_n 2, 1) := dk_77 (dk_at dksJ7_delete_0 4 rfl rfl)
theorem dJ7_delete_5 : decode cJ7_delete 5 = .ok (.aload_n 2, 1) := dk_44 (dk_at dksJ7_delete_0 5 rfl rfl)
theorem dJ7_delete_6 : decode cJ7_delete 6 = .ok (.arraylength, 1) := dk_190 (dk_at dksJ7_delete_0 6 rfl rfl)
theorem dJ7_delete_7 : decode cJ7_delete 7 = .ok (.istore_n 3, 1) := dk_62 (dk_at dksJ7_delete_0 7 rfl rfl)
theorem dJ7_delete_8 : decode cJ7_delete 8 = .ok (.iload_n 1, 1) := dk_27 (dk_at dksJ7_delete_0 8 rfl rfl)
theorem dJ7_delete_9 : decode cJ7_delete 9 = .ok (.aload_n 0, 1) := dk_42 (dk_at dksJ7_delete_0 9 rfl rfl)
theorem dJ7_delete_10 : decode cJ7_delete 10 = .ok (.getfield 24, 3) := dk_180 0 24 (dk_at dksJ7_delete_0 10 rfl rfl)
theorem dJ7_delete_13 : decode cJ7_delete 13 = .ok (.dup, 1) := dk_89 (dk_at dksJ7_delete_0 13 rfl rfl)
theorem dJ7_delete_14 : decode cJ7_delete 14 = .ok (.istore 4, 2) := dk_54 4 (dk_at dksJ7_delete_0 14 rfl rfl)
theorem dJ7_delete_16 : decode cJ7_delete 16 = .ok (.iload_n 3, 1) := dk_29 (dk_at dksJ7_delete_0 16 rfl rfl)
theorem dJ7_delete_17 : decode cJ7_delete 17 = .ok (.invokestatic 127, 3) := dk_184 0 127 (dk_at dksJ7_delete_0 17 rfl rfl)
theorem dJ7_delete_20 : decode cJ7_delete 20 = .ok (.istore 6, 2) := dk_54 6 (dk_at dksJ7_delete_0 20 rfl rfl)
theorem dJ7_delete_22 : decode cJ7_delete 22 = .ok (.aload_n 0, 1) := dk_42 (dk_at dksJ7_delete_0 22 rfl rfl)
theorem dJ7_delete_23 : decode cJ7_delete 23 = .ok (.getfield 20, 3) := dk_180 0 20 (dk_at dksJ7_delete_1 0 rfl rfl)
theorem dJ7_delete_26 : decode cJ7_delete 26 = .ok (.dup, 1) := dk_89 (dk_at dksJ7_delete_1 3 rfl rfl)
theorem dJ7_delete_27 : decode cJ7_delete 27 = .ok (.istore 5, 2) := dk_54 5 (dk_at dksJ7_delete_1 4 rfl rfl)
theorem dJ7_delete_29 : decode cJ7_delete 29 = .ok (.iload_n 1, 1) := dk_27 (dk_at dksJ7_delete_1 6 rfl rfl)
theorem dJ7_delete_30 : decode cJ7_delete 30 = .ok (.iload_n 3, 1) := dk_29 (dk_at dksJ7_delete_1 7 rfl rfl)
theorem dJ7_delete_31 : decode cJ7_delete 31 = .ok (.invokestatic 127, 3) := dk_184 0 127 (dk_at dksJ7_delete_1 8 rfl rfl)
theorem dJ7_delete_34 : decode cJ7_delete 34 = .ok (.iconst 1, 1) := dk_4 (dk_at dksJ7_delete_1 11 rfl rfl)
theorem dJ7_delete_35 : decode cJ7_delete 35 = .ok (.isub, 1) := dk_100 (dk_at dksJ7_delete_1 12 rfl rfl)
theorem dJ7_delete_36 : decode cJ7_delete 36 = .ok (.istore 7, 2) := dk_54 7 (dk_at dksJ7_delete_1 13 rfl rfl)
theorem dJ7_delete_38 : decode cJ7_delete 38 = .ok (.iload 6, 2) := dk_21 6 (dk_at dksJ7_delete_1 15 rfl rfl)
theorem dJ7_delete_40 : decode cJ7_delete 40 = .ok (.iload 7, 2) := dk_21 7 (dk_at dksJ7_delete_1 17 rfl rfl)
theorem dJ7_delete_42 : decode cJ7_delete 42 = .ok (.if_icmp .ge 75, 3) := dk_162 0 75 (dk_at dksJ7_delete_1 19 rfl rfl)
theorem dJ7_delete_45 : decode cJ7_delete 45 = .ok (.iload 4, 2) := dk_21 4 (dk_at dksJ7_delete_1 22 rfl rfl)
theorem dJ7_delete_47 : decode cJ7_delete 47 = .ok (.iload_n 1, 1) := dk_27 (dk_at dksJ7_delete_2 0 rfl rfl)
theorem dJ7_delete_48 : decode cJ7_delete 48 = .ok (.if_icmp .gt 19, 3) := dk_163 0 19 (dk_at dksJ7_delete_2 1 rfl rfl)
theorem dJ7_delete_51 : decode cJ7_delete 51 = .ok (.aload_n 2, 1) := dk_44 (dk_at dksJ7_delete_2 4 rfl rfl)
theorem dJ7_delete_52 : decode cJ7_delete 52 = .ok (.iload 4, 2) := dk_21 4 (dk_at dksJ7_delete_2 5 rfl rfl)
theorem dJ7_delete_54 : decode cJ7_delete 54 = .ok (.aload_n 2, 1) := dk_44 (dk_at dksJ7_delete_2 7 rfl rfl)
theorem dJ7_delete_55 : decode cJ7_delete 55 = .ok (.iload 4, 2) := dk_21 4 (dk_at dksJ7_delete_2 8 rfl rfl)
theorem dJ7_delete_57 : decode cJ7_delete 57 = .ok (.iconst 1, 1) := dk_4 (dk_at dksJ7_delete_2 10 rfl rfl)
theorem dJ7_delete_58 : decode cJ7_delete 58 = .ok (.iadd, 1) := dk_96 (dk_at dksJ7_delete_2 11 rfl rfl)
theorem dJ7_delete_59 : decode cJ7_delete 59 = .ok (.iload 6, 2) := dk_21 6 (dk_at dksJ7_delete_2 12 rfl rfl)
theorem dJ7_delete_61 : decode cJ7_delete 61 = .ok (.invokestatic 27, 3) := dk_184 0 27 (dk_at dksJ7_delete_2 14 rfl rfl)
theorem dJ7_delete_64 : decode cJ7_delete 64 = .ok (.goto 36, 3) := dk_167 0 36 (dk_at dksJ7_delete_2 17 rfl rfl)
theorem dJ7_delete_67 : decode cJ7_delete 67 = .ok (.aload_n 2, 1) := dk_44 (dk_at dksJ7_delete_2 20 rfl rfl)
theorem dJ7_delete_68 : decode cJ7_delete 68 = .ok (.iconst 0, 1) := dk_3 (dk_at dksJ7_delete_2 21 rfl rfl)
theorem dJ7_delete_69 : decode cJ7_delete 69 = .ok (.aload_n 2, 1) := dk_44 (dk_at dksJ7_delete_2 22 rfl rfl)
theorem dJ7_delete_70 : decode cJ7_delete 70 = .ok (.iconst 1, 1) := dk_4 (dk_at dksJ7_delete_2 23 rfl rfl)
theorem dJ7_delete_71 : decode cJ7_delete 71 = .ok (.iload_n 1, 1) := dk_27 (dk_at dksJ7_delete_3 0 rfl rfl)
theorem dJ7_delete_72 : decode cJ7_delete 72 = .ok (.invokestatic 27, 3) := dk_184 0 27 (dk_at dksJ7_delete_3 1 rfl rfl)
theorem dJ7_delete_75 : decode cJ7_delete 75 = .ok (.aload_n 2, 1) := dk_44 (dk_at dksJ7_delete_3 4 rfl rfl)
theorem dJ7_delete_76 : decode cJ7_delete 76 = .ok (.iconst 0, 1) := dk_3 (dk_at dksJ7_delete_3 5 rfl rfl)
theorem dJ7_delete_77 : decode cJ7_delete 77 = .ok (.aload_n 2, 1) := dk_44 (dk_at dksJ7_delete_3 6 rfl rfl)
theorem dJ7_delete_78 : decode cJ7_delete 78 = .ok (.iload_n 3, 1) := dk_29 (dk_at dksJ7_delete_3 7 rfl rfl)
theorem dJ7_delete_79 : decode cJ7_delete 79 = .ok (.iconst 1, 1) := dk_4 (dk_at dksJ7_delete_3 8 rfl rfl)
theorem dJ7_delete_80 : decode cJ7_delete 80 = .ok (.isub, 1) := dk_100 (dk_at dksJ7_delete_3 9 rfl rfl)
theorem dJ7_delete_81 : decode cJ7_delete 81 = .ok (.aaload, 1) := dk_50 (dk_at dksJ7_delete_3 10 rfl rfl)
theorem dJ7_delete_82 : decode cJ7_delete 82 = .ok (.aastore, 1) := dk_83 (dk_at dksJ7_delete_3 11 rfl rfl)
theorem dJ7_delete_83 : decode cJ7_delete 83 = .ok (.aload_n 2, 1) := dk_44 (dk_at dksJ7_delete_3 12 rfl rfl)
theorem dJ7_delete_84 : decode cJ7_delete 84 = .ok (.iload 4, 2) := dk_21 4 (dk_at dksJ7_delete_3 13 rfl rfl)
theorem dJ7_delete_86 : decode cJ7_delete 86 = .ok (.aload_n 2, 1) := dk_44 (dk_at dksJ7_delete_3 15 rfl rfl)
theorem dJ7_delete_87 : decode cJ7_delete 87 = .ok (.iload 4, 2) := dk_21 4 (dk_at dksJ7_delete_3 16 rfl rfl)
theorem dJ7_delete_89 : decode cJ7_delete 89 = .ok (.iconst 1, 1) := dk_4 (dk_at dksJ7_delete_3 18 rfl rfl)
theorem dJ7_delete_90 : decode cJ7_delete 90 = .ok (.iadd, 1) := dk_96 (dk_at dksJ7_delete_3 19 rfl rfl)
theorem dJ7_delete_91 : decode cJ7_delete 91 = .ok (.iload 6, 2) := dk_21 6 (dk_at dksJ7_delete_3 20 rfl rfl)
theorem dJ7_delete_93 : decode cJ7_delete 93 = .ok (.iload_n 1, 1) := dk_27 (dk_at dksJ7_delete_3 22 rfl rfl)
theorem dJ7_delete_94 : decode cJ7_delete 94 = .ok (.iconst 1, 1) := dk_4 (dk_at dksJ7_delete_3 23 rfl rfl)
theorem dJ7_delete_95 : decode cJ7_delete 95 = .ok (.iadd, 1) := dk_96 (dk_at dksJ7_delete_4 0 rfl rfl)
theorem dJ7_delete_96 : decode cJ7_delete 96 = .ok (.isub, 1) := dk_100 (dk_at dksJ7_delete_4 1 rfl rfl)
theorem dJ7_delete_97 : decode cJ7_delete 97 = .ok (.invokestatic 27, 3) := dk_184 0 27 (dk_at dksJ7_delete_4 2 rfl rfl)
theorem dJ7_delete_100 : decode cJ7_delete 100 = .ok (.aload_n 2, 1) := dk_44 (dk_at dksJ7_delete_4 5 rfl rfl)
theorem dJ7_delete_101 : decode cJ7_delete 101 = .ok (.iload 4, 2) := dk_21 4 (dk_at dksJ7_delete_4 6 rfl rfl)
theorem dJ7_delete_103 : decode cJ7_delete 103 = .ok (.aconst_null, 1) := dk_1 (dk_at dksJ7_delete_4 8 rfl rfl)
theorem dJ7_delete_104 : decode cJ7_delete 104 = .ok (.aastore, 1) := dk_83 (dk_at dksJ7_delete_4 9 rfl rfl)
theorem dJ7_delete_105 : decode cJ7_delete 105 = .ok (.aload_n 0, 1) := dk_42 (dk_at dksJ7_delete_4 10 rfl rfl)
theorem dJ7_delete_106 : decode cJ7_delete 106 = .ok (.iload 4, 2) := dk_21 4 (dk_at dksJ7_delete_4 11 rfl rfl)
theorem dJ7_delete_108 : decode cJ7_delete 108 = .ok (.iload_n 3, 1) := dk_29 (dk_at dksJ7_delete_4 13 rfl rfl)
theorem dJ7_delete_109 : decode cJ7_delete 109 = .ok (.invokestatic 74, 3) := dk_184 0 74 (dk_at dksJ7_delete_4 14 rfl rfl)
theorem dJ7_delete_112 : decode cJ7_delete 112 = .ok (.putfield 24, 3) := dk_181 0 24 (dk_at dksJ7_delete_4 17 rfl rfl)
theorem dJ7_delete_115 : decode cJ7_delete 115 = .ok (.iconst 0, 1) := dk_3 (dk_at dksJ7_delete_4 20 rfl rfl)
theorem dJ7_delete_116 : decode cJ7_delete 116 = .ok (.ireturn, 1) := dk_172 (dk_at dksJ7_delete_4 21 rfl rfl)
theorem dJ7_delete_117 : decode cJ7_delete 117 = .ok (.aload_n 0, 1) := dk_42 (dk_at dksJ7_delete_4 22 rfl rfl)
theorem dJ7_delete_118 : decode cJ7_delete 118 = .ok (.iload 5, 2) := dk_21 5 (dk_at dksJ7_delete_5 0 rfl rfl)
theorem dJ7_delete_120 : decode cJ7_delete 120 = .ok (.iload_n 3, 1) := dk_29 (dk_at dksJ7_delete_5 2 rfl rfl)
theorem dJ7_delete_121 : decode cJ7_delete 121 = .ok (.invokestatic 68, 3) := dk_184 0 68 (dk_at dksJ7_delete_5 3 rfl rfl)
theorem dJ7_delete_124 : decode cJ7_delete 124 = .ok (.putfield 20, 3) := dk_181 0 20 (dk_at dksJ7_delete_5 6 rfl rfl)
theorem dJ7_delete_127 : decode cJ7_delete 127 = .ok (.iload_n 1, 1) := dk_27 (dk_at dksJ7_delete_5 9 rfl rfl)
theorem dJ7_delete_128 : decode cJ7_delete 128 = .ok (.aload_n 0, 1) := dk_42 (dk_at dksJ7_delete_5 10 rfl rfl)
theorem dJ7_delete_129 : decode cJ7_delete 129 = .ok (.getfield 20, 3) := dk_180 0 20 (dk_at dksJ7_delete_5 11 rfl rfl)
theorem dJ7_delete_132 : decode cJ7_delete 132 = .ok (.if_icmp .gt 17, 3) := dk_163 0 17 (dk_at dksJ7_delete_5 14 rfl rfl)
theorem dJ7_delete_135 : decode cJ7_delete 135 = .ok (.aload_n 2, 1) := dk_44 (dk_at dksJ7_delete_5 17 rfl rfl)
theorem dJ7_delete_136 : decode cJ7_delete 136 = .ok (.iload_n 1, 1) := dk_27 (dk_at dksJ7_delete_5 18 rfl rfl)
theorem dJ7_delete_137 : decode cJ7_delete 137 = .ok (.iconst 1, 1) := dk_4 (dk_at dksJ7_delete_5 19 rfl rfl)
theorem dJ7_delete_138 : decode cJ7_delete 138 = .ok (.iadd, 1) := dk_96 (dk_at dksJ7_delete_5 20 rfl rfl)
theorem dJ7_delete_139 : decode cJ7_delete 139 = .ok (.aload_n 2, 1) := dk_44 (dk_at dksJ7_delete_5 21 rfl rfl)
theorem dJ7_delete_140 : decode cJ7_delete 140 = .ok (.iload_n 1, 1) := dk_27 (dk_at dksJ7_delete_5 22 rfl rfl)
theorem dJ7_delete_141 : decode cJ7_delete 141 = .ok (.iload 7, 2) := dk_21 7 (dk_at dksJ7_delete_6 0 rfl rfl)
theorem dJ7_delete_143 : decode cJ7_delete 143 = .ok (.invokestatic 27, 3) := dk_184 0 27 (dk_at dksJ7_delete_6 2 rfl rfl)
theorem dJ7_delete_146 : decode cJ7_delete 146 = .ok (.goto 36, 3) := dk_167 0 36 (dk_at dksJ7_delete_6 5 rfl rfl)
theorem dJ7_delete_149 : decode cJ7_delete 149 = .ok (.aload_n 2, 1) := dk_44 (dk_at dksJ7_delete_6 8 rfl rfl)
theorem dJ7_delete_150 : decode cJ7_delete 150 = .ok (.iload_n 1, 1) := dk_27 (dk_at dksJ7_delete_6 9 rfl rfl)
theorem dJ7_delete_151 : decode cJ7_delete 151 = .ok (.iconst 1, 1) := dk_4 (dk_at dksJ7_delete_6 10 rfl rfl)
theorem dJ7_delete_152 : decode cJ7_delete 152 = .ok (.iadd, 1) := dk_96 (dk_at dksJ7_delete_6 11 rfl rfl)
theorem dJ7_delete_153 : decode cJ7_delete 153 = .ok (.aload_n 2, 1) := dk_44 (dk_at dksJ7_delete_6 12 rfl rfl)
theorem dJ7_delete_154 : decode cJ7_delete 154 = .ok (.iload_n 1, 1) := dk_27 (dk_at dksJ7_delete_6 13 rfl rfl)
theorem dJ7_delete_155 : decode cJ7_delete 155 = .ok (.iload_n 3, 1) := dk_29 (dk_at dksJ7_delete_6 14 rfl rfl)
theorem dJ7_delete_156 : decode cJ7_delete 156 = .ok (.iload_n 1, 1) := dk_27 (dk_at dksJ7_delete_6 15 rfl rfl)
theorem dJ7_delete_157 : decode cJ7_delete 157 = .ok (.iconst 1, 1) := dk_4 (dk_at dksJ7_delete_6 16 rfl rfl)
theorem dJ7_delete_158 : decode cJ7_delete 158 = .ok (.iadd, 1) := dk_96 (dk_at dksJ7_delete_6 17 rfl rfl)
theorem dJ7_delete_159 : decode cJ7_delete 159 = .ok (.isub, 1) := dk_100 (dk_at dksJ7_delete_6 18 rfl rfl)
theorem dJ7_delete_160 : decode cJ7_delete 160 = .ok (.invokestatic 27, 3) := dk_184 0 27 (dk_at dksJ7_delete_6 19 rfl rfl)
theorem dJ7_delete_163 : decode cJ7_delete 163 = .ok (.aload_n 2, 1) := dk_44 (dk_at dksJ7_delete_6 22 rfl rfl)
theorem dJ7_delete_164 : decode cJ7_delete 164 = .ok (.iload_n 3, 1) := dk_29 (dk_at dksJ7_delete_6 23 rfl rfl)
theorem dJ7_delete_165 : decode cJ7_delete 165 = .ok (.iconst 1, 1) := dk_4 (dk_at dksJ7_delete_7 0 rfl rfl)
theorem dJ7_delete_166 : decode cJ7_delete 166 = .ok (.isub, 1) := dk_100 (dk_at dksJ7_delete_7 1 rfl rfl)
theorem dJ7_delete_167 : decode cJ7_delete 167 = .ok (.aload_n 2, 1) := dk_44 (dk_at dksJ7_delete_7 2 rfl rfl)
theorem dJ7_delete_168 : decode cJ7_delete 168 = .ok (.iconst 0, 1) := dk_3 (dk_at dksJ7_delete_7 3 rfl rfl)
theorem dJ7_delete_169 : decode cJ7_delete 169 = .ok (.aaload, 1) := dk_50 (dk_at dksJ7_delete_7 4 rfl rfl)
theorem dJ7_delete_170 : decode cJ7_delete 170 = .ok (.aastore, 1) := dk_83 (dk_at dksJ7_delete_7 5 rfl rfl)
theorem dJ7_delete_171 : decode cJ7_delete 171 = .ok (.aload_n 2, 1) := dk_44 (dk_at dksJ7_delete_7 6 rfl rfl)
theorem dJ7_delete_172 : decode cJ7_delete 172 = .ok (.iconst 1, 1) := dk_4 (dk_at dksJ7_delete_7 7 rfl rfl)
theorem dJ7_delete_173 : decode cJ7_delete 173 = .ok (.aload_n 2, 1) := dk_44 (dk_at dksJ7_delete_7 8 rfl rfl)
theorem dJ7_delete_174 : decode cJ7_delete 174 = .ok (.iconst 0, 1) := dk_3 (dk_at dksJ7_delete_7 9 rfl rfl)
theorem dJ7_delete_175 : decode cJ7_delete 175 = .ok (.iload 5, 2) := dk_21 5 (dk_at dksJ7_delete_7 10 rfl rfl)
theorem dJ7_delete_177 : decode cJ7_delete 177 = .ok (.iconst 1, 1) := dk_4 (dk_at dksJ7_delete_7 12 rfl rfl)
theorem dJ7_delete_178 : decode cJ7_delete 178 = .ok (.isub, 1) := dk_100 (dk_at dksJ7_delete_7 13 rfl rfl)
theorem dJ7_delete_179 : decode cJ7_delete 179 = .ok (.invokestatic 27, 3) := dk_184 0 27 (dk_at dksJ7_delete_7 14 rfl rfl)
theorem dJ7_delete_182 : decode cJ7_delete 182 = .ok (.aload_n 2, 1) := dk_44 (dk_at dksJ7_delete_7 17 rfl rfl)
theorem dJ7_delete_183 : decode cJ7_delete 183 = .ok (.aload_n 0, 1) := dk_42 (dk_at dksJ7_delete_7 18 rfl rfl)
theorem dJ7_delete_184 : decode cJ7_delete 184 = .ok (.getfield 20, 3) := dk_180 0 20 (dk_at dksJ7_delete_7 19 rfl rfl)
theorem dJ7_delete_187 : decode cJ7_delete 187 = .ok (.aconst_null, 1) := dk_1 (dk_at dksJ7_delete_7 22 rfl rfl)
theorem dJ7_delete_188 : decode cJ7_delete 188 = .ok (.aastore, 1) := dk_83 (dk_at dksJ7_delete_7 23 rfl rfl)
theorem dJ7_delete_189 : decode cJ7_delete 189 = .ok (.iconst 1, 1) := dk_4 (dk_at dksJ7_delete_8 0 rfl rfl)
theorem dJ7_delete_190 : decode cJ7_delete 190 = .ok (.ireturn, 1) := dk_172 (dk_at dksJ7_delete_8 1 rfl rfl)
abbrev cJ7_sub : ByteArray := prog_100_method_9_code
def yJ7_sub : MethodName := ⟨RJ7, "sub", "(III)I"⟩
def dkwJ7_sub_0 : List UInt8 := [26, 27, 100, 89, 59, 156, 0, 7, 26, 28, 96, 59, 26, 172]
abbrev dktJ7_sub_0 : List UInt8 := dkwJ7_sub_0 ++ []
theorem dksJ7_sub_0 : cJ7_sub.data.toList.drop 0 = dktJ7_sub_0 := by decide +kernel
theorem dJ7_sub_0 : decode cJ7_sub 0 = .ok (.iload_n 0, 1) := dk_26 (dk_at dksJ7_sub_0 0 rfl rfl)
theorem dJ7_sub_1 : decode cJ7_sub 1 = .ok (.iload_n 1, 1) := dk_27 (dk_at dksJ7_sub_0 1 rfl rfl)
theorem dJ7_sub_2 : decode cJ7_sub 2 = .ok (.isub, 1) := dk_100 (dk_at dksJ7_sub_0 2 rfl rfl)
theorem dJ7_sub_3 : decode cJ7_sub 3 = .ok (.dup, 1) := dk_89 (dk_at dksJ7_sub_0 3 rfl rfl)
theorem dJ7_sub_4 : decode cJ7_sub 4 = .ok (.istore_n 0, 1) := dk_59 (dk_at dksJ7_sub_0 4 rfl rfl)
theorem dJ7_sub_5 : decode cJ7_sub 5 = .ok (.ifCond .ge 7, 3) := dk_156 0 7 (dk_at dksJ7_sub_0 5 rfl rfl)
theorem dJ7_sub_8 : decode cJ7_sub 8 = .ok (.iload_n 0, 1) := dk_26 (dk_at dksJ7_sub_0 8 rfl rfl)
theorem dJ7_sub_9 : decode cJ7_sub 9 = .ok (.iload_n 2, 1) := dk_28 (dk_at dksJ7_sub_0 9 rfl rfl)
theorem dJ7_sub_10 : decode cJ7_sub 10 = .ok (.iadd, 1) := dk_96 (dk_at dksJ7_sub_0 10 rfl rfl)
theorem dJ7_sub_11 : decode cJ7_sub 11 = .ok (.istore_n 0, 1) := dk_59 (dk_at dksJ7_sub_0 11 rfl rfl)
theorem dJ7_sub_12 : decode cJ7_sub 12 = .ok (.iload_n 0, 1) := dk_26 (dk_at dksJ7_sub_0 12 rfl rfl)
theorem dJ7_sub_13 : decode cJ7_sub 13 = .ok (.ireturn, 1) := dk_172 (dk_at dksJ7_sub_0 13 rfl rfl)
abbrev cJ7_dec : ByteArray := prog_100_method_7_code
def yJ7_dec : MethodName := ⟨RJ7, "dec", "(II)I"⟩
def dkwJ7_dec_0 : List UInt8 := [132, 0, 255, 26, 156, 0, 7, 27, 4, 100, 59, 26, 172]
abbrev dktJ7_dec_0 : List UInt8 := dkwJ7_dec_0 ++ []
theorem dksJ7_dec_0 : cJ7_dec.data.toList.drop 0 = dktJ7_dec_0 := by decide +kernel
theorem dJ7_dec_0 : decode cJ7_dec 0 = .ok (.iinc 0 (-1), 3) := dk_132 0 255 (dk_at dksJ7_dec_0 0 rfl rfl)
theorem dJ7_dec_3 : decode cJ7_dec 3 = .ok (.iload_n 0, 1) := dk_26 (dk_at dksJ7_dec_0 3 rfl rfl)
theorem dJ7_dec_4 : decode cJ7_dec 4 = .ok (.ifCond .ge 7, 3) := dk_156 0 7 (dk_at dksJ7_dec_0 4 rfl rfl)
theorem dJ7_dec_7 : decode cJ7_dec 7 = .ok (.iload_n 1, 1) := dk_27 (dk_at dksJ7_dec_0 7 rfl rfl)
theorem dJ7_dec_8 : decode cJ7_dec 8 = .ok (.iconst 1, 1) := dk_4 (dk_at dksJ7_dec_0 8 rfl rfl)
theorem dJ7_dec_9 : decode cJ7_dec 9 = .ok (.isub, 1) := dk_100 (dk_at dksJ7_dec_0 9 rfl rfl)
theorem dJ7_dec_10 : decode cJ7_dec 10 = .ok (.istore_n 0, 1) := dk_59 (dk_at dksJ7_dec_0 10 rfl rfl)
theorem dJ7_dec_11 : decode cJ7_dec 11 = .ok (.iload_n 0, 1) := dk_26 (dk_at dksJ7_dec_0 11 rfl rfl)
theorem dJ7_dec_12 : decode cJ7_dec 12 = .ok (.ireturn, 1) := dk_172 (dk_at dksJ7_dec_0 12 rfl rfl)
abbrev cJ7_iterator : ByteArray := prog_100_method_39_code
def yJ7_iterator : MethodName := ⟨RJ7, "iterator", "()Ljava/util/Iterator;"⟩
def dkwJ7_iterator_0 : List UInt8 := [187, 0, 131, 89, 42, 183, 0, 133, 176]
abbrev dktJ7_iterator_0 : List UInt8 := dkwJ7_iterator_0 ++ []
theorem dksJ7_iterator_0 : cJ7_iterator.data.toList.drop 0 = dktJ7_iterator_0 := by decide +kernel
theorem dJ7_iterator_0 : decode cJ7_iterator 0 = .ok (.new 131, 3) := dk_187 0 131 (dk_at dksJ7_iterator_0 0 rfl rfl)
theorem dJ7_iterator_3 : decode cJ7_iterator 3 = .ok (.dup, 1) := dk_89 (dk_at dksJ7_iterator_0 3 rfl rfl)
theorem dJ7_iterator_4 : decode cJ7_iterator 4 = .ok (.aload_n 0, 1) := dk_42 (dk_at dksJ7_iterator_0 4 rfl rfl)
theorem dJ7_iterator_5 : decode cJ7_iterator 5 = .ok (.invokespecial 133, 3) := dk_183 0 133 (dk_at dksJ7_iterator_0 5 rfl rfl)
theorem dJ7_iterator_8 : decode cJ7_iterator 8 = .ok (.areturn, 1) := dk_176 (dk_at dksJ7_iterator_0 8 rfl rfl)
abbrev cJ7_size : ByteArray := prog_100_method_37_code
def yJ7_size : MethodName := ⟨RJ7, "size", "()I"⟩
def dkwJ7_size_0 : List UInt8 := [42, 180, 0, 20, 42, 180, 0, 24, 42, 180, 0, 3, 190, 184, 0, 127, 172]
abbrev dktJ7_size_0 : List UInt8 := dkwJ7_size_0 ++ []
theorem dksJ7_size_0 : cJ7_size.data.toList.drop 0 = dktJ7_size_0 := by decide +kernel
theorem dJ7_size_0 : decode cJ7_size 0 = .ok (.aload_n 0, 1) := dk_42 (dk_at dksJ7_size_0 0 rfl rfl)
theorem dJ7_size_1 : decode cJ7_size 1 = .ok (.getfield 20, 3) := dk_180 0 20 (dk_at dksJ7_size_0 1 rfl rfl)
theorem dJ7_size_4 : decode cJ7_size 4 = .ok (.aload_n 0, 1) := dk_42 (dk_at dksJ7_size_0 4 rfl rfl)
theorem dJ7_size_5 : decode cJ7_size 5 = .ok (.getfield 24, 3) := dk_180 0 24 (dk_at dksJ7_size_0 5 rfl rfl)
theorem dJ7_size_8 : decode cJ7_size 8 = .ok (.aload_n 0, 1) := dk_42 (dk_at dksJ7_size_0 8 rfl rfl)
theorem dJ7_size_9 : decode cJ7_size 9 = .ok (.getfield 3, 3) := dk_180 0 3 (dk_at dksJ7_size_0 9 rfl rfl)
theorem dJ7_size_12 : decode cJ7_size 12 = .ok (.arraylength, 1) := dk_190 (dk_at dksJ7_size_0 12 rfl rfl)
theorem dJ7_size_13 : decode cJ7_size 13 = .ok (.invokestatic 127, 3) := dk_184 0 127 (dk_at dksJ7_size_0 13 rfl rfl)
theorem dJ7_size_16 : decode cJ7_size 16 = .ok (.ireturn, 1) := dk_172 (dk_at dksJ7_size_0 16 rfl rfl)
abbrev cJ7_add : ByteArray := prog_100_method_28_code
def yJ7_add : MethodName := ⟨RJ7, "add", "(Ljava/lang/Object;)Z"⟩
def dkwJ7_add_0 : List UInt8 := [42, 43, 182, 0, 90, 4, 172]
abbrev dktJ7_add_0 : List UInt8 := dkwJ7_add_0 ++ []
theorem dksJ7_add_0 : cJ7_add.data.toList.drop 0 = dktJ7_add_0 := by decide +kernel
theorem dJ7_add_0 : decode cJ7_add 0 = .ok (.aload_n 0, 1) := dk_42 (dk_at dksJ7_add_0 0 rfl rfl)
theorem dJ7_add_1 : decode cJ7_add 1 = .ok (.aload_n 1, 1) := dk_43 (dk_at dksJ7_add_0 1 rfl rfl)
theorem dJ7_add_2 : decode cJ7_add 2 = .ok (.invokevirtual 90, 3) := dk_182 0 90 (dk_at dksJ7_add_0 2 rfl rfl)
theorem dJ7_add_5 : decode cJ7_add 5 = .ok (.iconst 1, 1) := dk_4 (dk_at dksJ7_add_0 5 rfl rfl)
theorem dJ7_add_6 : decode cJ7_add 6 = .ok (.ireturn, 1) := dk_172 (dk_at dksJ7_add_0 6 rfl rfl)
theorem q435 : (Jvm.Cond.initialized "java/util/ArrayDeque") ∈ lw_all := lw_g (lw_at lw_m1 43 rfl) rfl
theorem q1796 : (Jvm.Cond.instantiable "java/util/ArrayDeque" (3 : Nat)) ∈ lw_all := lw_g (lw_at lw_m6 204 rfl) rfl
theorem q1798 : (Jvm.Cond.instanceMethod ({ cls := "java/util/ArrayDeque", name := "<init>", desc := "()V" } : Jvm.MethodName)) ∈ lw_all := lw_g (lw_at lw_m6 206 rfl) rfl
theorem q1799 : (Jvm.Cond.code ({ cls := "java/util/ArrayDeque", name := "<init>", desc := "()V" } : Jvm.MethodName) prog_100_method_3_code (1 : Nat) (Option.none : Option Jvm.ClassFile.FieldType)) ∈ lw_all := lw_g (lw_at lw_m6 207 rfl) rfl
theorem q1800 : (Jvm.Cond.methodLink "java/util/ArrayDeque" (42 : Nat) ({ cls := "java/util/AbstractCollection", name := "<init>", desc := "()V" } : Jvm.MethodName)) ∈ lw_all := lw_g (lw_at lw_m6 208 rfl) rfl
theorem q1801 : (Jvm.Cond.classLink "java/util/ArrayDeque" (47 : Nat) "java/lang/Object") ∈ lw_all := lw_g (lw_at lw_m6 209 rfl) rfl
theorem q1803 : (Jvm.Cond.fieldLink "java/util/ArrayDeque" (3 : Nat) "java/util/ArrayDeque" "elements" "[Ljava/lang/Object;") ∈ lw_all := lw_g (lw_at lw_m6 211 rfl) rfl
theorem q1806 : (Jvm.Cond.fieldLink "java/util/ArrayDeque" (24 : Nat) "java/util/ArrayDeque" "head" "I") ∈ lw_all := lw_g (lw_at lw_m6 214 rfl) rfl
theorem q1807 : (Jvm.Cond.fieldLink "java/util/ArrayDeque" (20 : Nat) "java/util/ArrayDeque" "tail" "I") ∈ lw_all := lw_g (lw_at lw_m6 215 rfl) rfl
theorem q1808 : (Jvm.Cond.lays "java/util/ArrayDeque" "java/util/ArrayDeque" "elements" "[Ljava/lang/Object;") ∈ lw_all := lw_g (lw_at lw_m6 216 rfl) rfl
theorem q1809 : (Jvm.Cond.soleField "java/util/ArrayDeque" "elements") ∈ lw_all := lw_g (lw_at lw_m6 217 rfl) rfl
theorem q1810 : (Jvm.Cond.lays "java/util/ArrayDeque" "java/util/ArrayDeque" "head" "I") ∈ lw_all := lw_g (lw_at lw_m6 218 rfl) rfl
theorem q1811 : (Jvm.Cond.soleField "java/util/ArrayDeque" "head") ∈ lw_all := lw_g (lw_at lw_m6 219 rfl) rfl
theorem q1812 : (Jvm.Cond.lays "java/util/ArrayDeque" "java/util/ArrayDeque" "tail" "I") ∈ lw_all := lw_g (lw_at lw_m6 220 rfl) rfl
theorem q1813 : (Jvm.Cond.soleField "java/util/ArrayDeque" "tail") ∈ lw_all := lw_g (lw_at lw_m6 221 rfl) rfl
theorem q1814 : (Jvm.Cond.superclass "java/util/ArrayDeque" "java/util/AbstractCollection") ∈ lw_all := lw_g (lw_at lw_m6 222 rfl) rfl
theorem q2043 : (Jvm.Cond.selects "java/util/ArrayDeque" ({ cls := "java/lang/Object", name := "getClass", desc := "()Ljava/lang/Class;" } : Jvm.MethodName) ({ cls := "java/lang/Object", name := "getClass", desc := "()Ljava/lang/Class;" } : Jvm.MethodName)) ∈ lw_all := lw_g (lw_at lw_m7 211 rfl) rfl
theorem q3002 : (Jvm.Cond.static ({ cls := "java/util/ArrayDeque", name := "nonNullElementAt", desc := "([Ljava/lang/Object;I)Ljava/lang/Object;" } : Jvm.MethodName)) ∈ lw_all := lw_g (lw_at lw_m11 210 rfl) rfl
theorem q3003 : (Jvm.Cond.code ({ cls := "java/util/ArrayDeque", name := "nonNullElementAt", desc := "([Ljava/lang/Object;I)Ljava/lang/Object;" } : Jvm.MethodName) prog_100_method_11_code (3 : Nat) (Option.some (Jvm.ClassFile.FieldType.object "java/lang/Object"))) ∈ lw_all := lw_g (lw_at lw_m11 211 rfl) rfl
theorem q3005 : (Jvm.Cond.static ({ cls := "java/util/ArrayDeque", name := "inc", desc := "(II)I" } : Jvm.MethodName)) ∈ lw_all := lw_g (lw_at lw_m11 213 rfl) rfl
theorem q3006 : (Jvm.Cond.code ({ cls := "java/util/ArrayDeque", name := "inc", desc := "(II)I" } : Jvm.MethodName) prog_100_method_6_code (2 : Nat) (Option.some Jvm.ClassFile.FieldType.int)) ∈ lw_all := lw_g (lw_at lw_m11 214 rfl) rfl
theorem q4330 : (Jvm.Cond.instanceMethod ({ cls := "java/util/ArrayDeque", name := "addLast", desc := "(Ljava/lang/Object;)V" } : Jvm.MethodName)) ∈ lw_all := lw_g (lw_at lw_m17 98 rfl) rfl
theorem q4331 : (Jvm.Cond.selects "java/util/ArrayDeque" ({ cls := "java/util/ArrayDeque", name := "addLast", desc := "(Ljava/lang/Object;)V" } : Jvm.MethodName) ({ cls := "java/util/ArrayDeque", name := "addLast", desc := "(Ljava/lang/Object;)V" } : Jvm.MethodName)) ∈ lw_all := lw_g (lw_at lw_m17 99 rfl) rfl
theorem q4332 : (Jvm.Cond.code ({ cls := "java/util/ArrayDeque", name := "addLast", desc := "(Ljava/lang/Object;)V" } : Jvm.MethodName) prog_100_method_13_code (3 : Nat) (Option.none : Option Jvm.ClassFile.FieldType)) ∈ lw_all := lw_g (lw_at lw_m17 100 rfl) rfl
theorem q4333 : (Jvm.Cond.methodLink "java/util/ArrayDeque" (74 : Nat) ({ cls := "java/util/ArrayDeque", name := "inc", desc := "(II)I" } : Jvm.MethodName)) ∈ lw_all := lw_g (lw_at lw_m17 101 rfl) rfl
theorem q4334 : (Jvm.Cond.methodLink "java/util/ArrayDeque" (71 : Nat) ({ cls := "java/util/ArrayDeque", name := "grow", desc := "(I)V" } : Jvm.MethodName)) ∈ lw_all := lw_g (lw_at lw_m17 102 rfl) rfl
theorem q4335 : (Jvm.Cond.privateMethod ({ cls := "java/util/ArrayDeque", name := "grow", desc := "(I)V" } : Jvm.MethodName)) ∈ lw_tbl := lw_at lw_m17 103 rfl
theorem q4336 : (Jvm.Cond.instanceMethod ({ cls := "java/util/ArrayDeque", name := "grow", desc := "(I)V" } : Jvm.MethodName)) ∈ lw_all := lw_g (lw_at lw_m17 104 rfl) rfl
theorem q4337 : (Jvm.Cond.code ({ cls := "java/util/ArrayDeque", name := "grow", desc := "(I)V" } : Jvm.MethodName) prog_100_method_1_code (9 : Nat) (Option.none : Option Jvm.ClassFile.FieldType)) ∈ lw_all := lw_g (lw_at lw_m17 105 rfl) rfl
theorem q4338 : (Jvm.Cond.constant "java/util/ArrayDeque" (9 : Nat) (2147483639 : Int32)) ∈ lw_all := lw_g (lw_at lw_m17 106 rfl) rfl
theorem q4339 : (Jvm.Cond.methodLink "java/util/ArrayDeque" (10 : Nat) ({ cls := "java/util/ArrayDeque", name := "newCapacity", desc := "(II)I" } : Jvm.MethodName)) ∈ lw_all := lw_g (lw_at lw_m17 107 rfl) rfl
theorem q4340 : (Jvm.Cond.privateMethod ({ cls := "java/util/ArrayDeque", name := "newCapacity", desc := "(II)I" } : Jvm.MethodName)) ∈ lw_tbl := lw_at lw_m17 108 rfl
theorem q4341 : (Jvm.Cond.instanceMethod ({ cls := "java/util/ArrayDeque", name := "newCapacity", desc := "(II)I" } : Jvm.MethodName)) ∈ lw_all := lw_g (lw_at lw_m17 109 rfl) rfl
theorem q4342 : (Jvm.Cond.code ({ cls := "java/util/ArrayDeque", name := "newCapacity", desc := "(II)I" } : Jvm.MethodName) prog_100_method_2_code (5 : Nat) (Option.some Jvm.ClassFile.FieldType.int)) ∈ lw_all := lw_g (lw_at lw_m17 110 rfl) rfl
theorem q4343 : (Jvm.Cond.classLink "java/util/ArrayDeque" (33 : Nat) "java/lang/IllegalStateException") ∈ lw_all := lw_g (lw_at lw_m17 111 rfl) rfl
theorem q4352 : (Jvm.Cond.stringRef "java/util/ArrayDeque" (35 : Nat) "Sorry, deque too big") ∈ lw_tbl := lw_at lw_m17 120 rfl
theorem q4353 : (Jvm.Cond.methodLink "java/util/ArrayDeque" (37 : Nat) ({ cls := "java/lang/IllegalStateException", name := "<init>", desc := "(Ljava/lang/String;)V" } : Jvm.MethodName)) ∈ lw_all := lw_g (lw_at lw_m17 121 rfl) rfl
theorem q4359 : (Jvm.Cond.constant "java/util/ArrayDeque" (41 : Nat) (2147483647 : Int32)) ∈ lw_all := lw_g (lw_at lw_m17 127 rfl) rfl
theorem q4360 : (Jvm.Cond.methodLink "java/util/ArrayDeque" (14 : Nat) ({ cls := "java/util/Arrays", name := "copyOf", desc := "([Ljava/lang/Object;I)[Ljava/lang/Object;" } : Jvm.MethodName)) ∈ lw_all := lw_g (lw_at lw_m17 128 rfl) rfl
theorem q4361 : (Jvm.Cond.methodLink "java/util/ArrayDeque" (27 : Nat) ({ cls := "java/lang/System", name := "arraycopy", desc := "(Ljava/lang/Object;ILjava/lang/Object;II)V" } : Jvm.MethodName)) ∈ lw_all := lw_g (lw_at lw_m17 129 rfl) rfl
theorem q4568 : (Jvm.Cond.instanceMethod ({ cls := "java/util/ArrayDeque", name := "delete", desc := "(I)Z" } : Jvm.MethodName)) ∈ lw_all := lw_g (lw_at lw_m18 96 rfl) rfl
theorem q4569 : (Jvm.Cond.selects "java/util/ArrayDeque" ({ cls := "java/util/ArrayDeque", name := "delete", desc := "(I)Z" } : Jvm.MethodName) ({ cls := "java/util/ArrayDeque", name := "delete", desc := "(I)Z" } : Jvm.MethodName)) ∈ lw_all := lw_g (lw_at lw_m18 97 rfl) rfl
theorem q4570 : (Jvm.Cond.code ({ cls := "java/util/ArrayDeque", name := "delete", desc := "(I)Z" } : Jvm.MethodName) prog_100_method_36_code (8 : Nat) (Option.some Jvm.ClassFile.FieldType.boolean)) ∈ lw_all := lw_g (lw_at lw_m18 98 rfl) rfl
theorem q4571 : (Jvm.Cond.methodLink "java/util/ArrayDeque" (127 : Nat) ({ cls := "java/util/ArrayDeque", name := "sub", desc := "(III)I" } : Jvm.MethodName)) ∈ lw_all := lw_g (lw_at lw_m18 99 rfl) rfl
theorem q4572 : (Jvm.Cond.static ({ cls := "java/util/ArrayDeque", name := "sub", desc := "(III)I" } : Jvm.MethodName)) ∈ lw_all := lw_g (lw_at lw_m18 100 rfl) rfl
theorem q4573 : (Jvm.Cond.code ({ cls := "java/util/ArrayDeque", name := "sub", desc := "(III)I" } : Jvm.MethodName) prog_100_method_9_code (3 : Nat) (Option.some Jvm.ClassFile.FieldType.int)) ∈ lw_all := lw_g (lw_at lw_m18 101 rfl) rfl
theorem q4574 : (Jvm.Cond.methodLink "java/util/ArrayDeque" (68 : Nat) ({ cls := "java/util/ArrayDeque", name := "dec", desc := "(II)I" } : Jvm.MethodName)) ∈ lw_all := lw_g (lw_at lw_m18 102 rfl) rfl
theorem q4575 : (Jvm.Cond.static ({ cls := "java/util/ArrayDeque", name := "dec", desc := "(II)I" } : Jvm.MethodName)) ∈ lw_all := lw_g (lw_at lw_m18 103 rfl) rfl
theorem q4576 : (Jvm.Cond.code ({ cls := "java/util/ArrayDeque", name := "dec", desc := "(II)I" } : Jvm.MethodName) prog_100_method_7_code (2 : Nat) (Option.some Jvm.ClassFile.FieldType.int)) ∈ lw_all := lw_g (lw_at lw_m18 104 rfl) rfl
theorem q4663 : (Jvm.Cond.castable "java/util/ArrayDeque" "java/util/Collection") ∈ lw_tbl := lw_at lw_m18 191 rfl
theorem q4664 : (Jvm.Cond.selects "java/util/ArrayDeque" ({ cls := "java/util/Collection", name := "iterator", desc := "()Ljava/util/Iterator;" } : Jvm.MethodName) ({ cls := "java/util/ArrayDeque", name := "iterator", desc := "()Ljava/util/Iterator;" } : Jvm.MethodName)) ∈ lw_all := lw_g (lw_at lw_m18 192 rfl) rfl
theorem q4665 : (Jvm.Cond.unhidden "java/util/ArrayDeque" "iterator" "()Ljava/util/Iterator;") ∈ lw_tbl := lw_at lw_m18 193 rfl
theorem q4666 : (Jvm.Cond.instanceMethod ({ cls := "java/util/ArrayDeque", name := "iterator", desc := "()Ljava/util/Iterator;" } : Jvm.MethodName)) ∈ lw_all := lw_g (lw_at lw_m18 194 rfl) rfl
theorem q4667 : (Jvm.Cond.publicMethod ({ cls := "java/util/ArrayDeque", name := "iterator", desc := "()Ljava/util/Iterator;" } : Jvm.MethodName)) ∈ lw_tbl := lw_at lw_m18 195 rfl
theorem q4668 : (Jvm.Cond.code ({ cls := "java/util/ArrayDeque", name := "iterator", desc := "()Ljava/util/Iterator;" } : Jvm.MethodName) prog_100_method_39_code (1 : Nat) (Option.some (Jvm.ClassFile.FieldType.object "java/util/Iterator"))) ∈ lw_all := lw_g (lw_at lw_m18 196 rfl) rfl
theorem q4669 : (Jvm.Cond.classLink "java/util/ArrayDeque" (131 : Nat) "java/util/ArrayDeque$DeqIterator") ∈ lw_all := lw_g (lw_at lw_m18 197 rfl) rfl
theorem q4671 : (Jvm.Cond.methodLink "java/util/ArrayDeque" (133 : Nat) ({ cls := "java/util/ArrayDeque$DeqIterator", name := "<init>", desc := "(Ljava/util/ArrayDeque;)V" } : Jvm.MethodName)) ∈ lw_all := lw_g (lw_at lw_m18 199 rfl) rfl
theorem q4676 : (Jvm.Cond.instanceMethod ({ cls := "java/util/ArrayDeque", name := "size", desc := "()I" } : Jvm.MethodName)) ∈ lw_all := lw_g (lw_at lw_m18 204 rfl) rfl
theorem q4677 : (Jvm.Cond.selects "java/util/ArrayDeque" ({ cls := "java/util/ArrayDeque", name := "size", desc := "()I" } : Jvm.MethodName) ({ cls := "java/util/ArrayDeque", name := "size", desc := "()I" } : Jvm.MethodName)) ∈ lw_all := lw_g (lw_at lw_m18 205 rfl) rfl
theorem q4678 : (Jvm.Cond.code ({ cls := "java/util/ArrayDeque", name := "size", desc := "()I" } : Jvm.MethodName) prog_100_method_37_code (1 : Nat) (Option.some Jvm.ClassFile.FieldType.int)) ∈ lw_all := lw_g (lw_at lw_m18 206 rfl) rfl
theorem q4709 : (Jvm.Cond.selects "java/util/ArrayDeque" ({ cls := "java/util/AbstractCollection", name := "add", desc := "(Ljava/lang/Object;)Z" } : Jvm.MethodName) ({ cls := "java/util/ArrayDeque", name := "add", desc := "(Ljava/lang/Object;)Z" } : Jvm.MethodName)) ∈ lw_all := lw_g (lw_at lw_m18 237 rfl) rfl
theorem q4710 : (Jvm.Cond.instanceMethod ({ cls := "java/util/ArrayDeque", name := "add", desc := "(Ljava/lang/Object;)Z" } : Jvm.MethodName)) ∈ lw_all := lw_g (lw_at lw_m18 238 rfl) rfl
theorem q4711 : (Jvm.Cond.code ({ cls := "java/util/ArrayDeque", name := "add", desc := "(Ljava/lang/Object;)Z" } : Jvm.MethodName) prog_100_method_28_code (2 : Nat) (Option.some Jvm.ClassFile.FieldType.boolean)) ∈ lw_all := lw_g (lw_at lw_m18 239 rfl) rfl
theorem q4712 : (Jvm.Cond.methodLink "java/util/ArrayDeque" (90 : Nat) ({ cls := "java/util/ArrayDeque", name := "addLast", desc := "(Ljava/lang/Object;)V" } : Jvm.MethodName)) ∈ lw_all := lw_g (lw_at lw_m19 0 rfl) rfl
theorem q9602 : (Jvm.Cond.selects "java/util/ArrayDeque" ({ cls := "java/util/ArrayDeque", name := "iterator", desc := "()Ljava/util/Iterator;" } : Jvm.MethodName) ({ cls := "java/util/ArrayDeque", name := "iterator", desc := "()Ljava/util/Iterator;" } : Jvm.MethodName)) ∈ lw_all := lw_g (lw_at lw_m39 90 rfl) rfl
theorem q9657 : (Jvm.Cond.castable "java/util/ArrayDeque" "java/lang/Object") ∈ lw_tbl := lw_at lw_m39 145 rfl
theorem in_J7 : ∀ w ∈ wsJ70, w ∈ lw_all := lw_in wsJ70 [1808, 1810, 1812] (by decide +kernel) (by decide +kernel)
