/-! WasteHouse$ShareSolve$Whole -/
set_option maxRecDepth 100000
def RX10 : String := "WasteHouse$ShareSolve$Whole"
def TX10 : u_T := fun k => match k with
  | 0 => ("WasteHouse$ShareSolve$Whole", "digits", "[I", true)
  | 1 => ("WasteHouse$ShareSolve$Whole", "count", "I", false)
  | _ => ("WasteHouse$ShareSolve$Whole", "negative", "Z", false)
def tyX10 : Nat → FieldType := fun k => match k with
  | 0 => .array .int
  | 1 => .int
  | _ => .boolean
abbrev wsX100 : List Cond := u_ws RX10 TX10 3
theorem nmX10 : ∀ a, a < 3 → ∀ b, b < 3 → a ≠ b → (TX10 a).2.1 ≠ (TX10 b).2.1 := by decide +kernel
theorem tyX10_ok : ∀ k, k < 3 → parseFieldDescriptor (TX10 k).2.2.1 = some (tyX10 k) := by decide +kernel
abbrev cX10_init : ByteArray := prog_46_method_1_code
def yX10_init : MethodName := ⟨RX10, "<init>", "()V"⟩
def dkwX10_init_0 : List UInt8 := [42, 183, 0, 1, 42, 16, 48, 188, 10, 181, 0, 7, 177]
abbrev dktX10_init_0 : List UInt8 := dkwX10_init_0 ++ []
theorem dksX10_init_0 : cX10_init.data.toList.drop 0 = dktX10_init_0 := by decide +kernel
theorem dX10_init_0 : decode cX10_init 0 = .ok (.aload_n 0, 1) := dk_42 (dk_at dksX10_init_0 0 rfl rfl)
theorem dX10_init_1 : decode cX10_init 1 = .ok (.invokespecial 1, 3) := dk_183 0 1 (dk_at dksX10_init_0 1 rfl rfl)
theorem dX10_init_4 : decode cX10_init 4 = .ok (.aload_n 0, 1) := dk_42 (dk_at dksX10_init_0 4 rfl rfl)
theorem dX10_init_5 : decode cX10_init 5 = .ok (.bipush 48, 2) := dk_16 48 (dk_at dksX10_init_0 5 rfl rfl)
theorem dX10_init_7 : decode cX10_init 7 = .ok (.newarray .int, 2) := dk_188_10 (dk_at dksX10_init_0 7 rfl rfl)
theorem dX10_init_9 : decode cX10_init 9 = .ok (.putfield 7, 3) := dk_181 0 7 (dk_at dksX10_init_0 9 rfl rfl)
theorem dX10_init_12 : decode cX10_init 12 = .ok (.return_, 1) := dk_177 (dk_at dksX10_init_0 12 rfl rfl)
abbrev cX10_set : ByteArray := prog_46_method_3_code
def yX10_set : MethodName := ⟨RX10, "set", "(I)V"⟩
def dkwX10_set_2 : List UInt8 := [16, 16, 122, 61, 167, 255, 227, 177]
abbrev dktX10_set_2 : List UInt8 := dkwX10_set_2 ++ []
def dkwX10_set_1 : List UInt8 := [158, 0, 31, 42, 180, 0, 7, 42, 89, 180, 0, 13, 90, 4, 96, 181, 0, 13, 28, 18, 27, 126, 79, 28]
abbrev dktX10_set_1 : List UInt8 := dkwX10_set_1 ++ dktX10_set_2
def dkwX10_set_0 : List UInt8 := [42, 3, 181, 0, 13, 42, 27, 156, 0, 7, 4, 167, 0, 4, 3, 181, 0, 17, 27, 184, 0, 21, 61, 28]
abbrev dktX10_set_0 : List UInt8 := dkwX10_set_0 ++ dktX10_set_1
theorem dksX10_set_0 : cX10_set.data.toList.drop 0 = dktX10_set_0 := by decide +kernel
theorem dksX10_set_1 : cX10_set.data.toList.drop 24 = dktX10_set_1 := dk_seg dksX10_set_0 24 rfl rfl
theorem dksX10_set_2 : cX10_set.data.toList.drop 48 = dktX10_set_2 := dk_seg dksX10_set_1 24 rfl rfl
theorem dX10_set_0 : decode cX10_set 0 = .ok (.aload_n 0, 1) := dk_42 (dk_at dksX10_set_0 0 rfl rfl)
theorem dX10_set_1 : decode cX10_set 1 = .ok (.iconst 0, 1) := dk_3 (dk_at dksX10_set_0 1 rfl rfl)
theorem dX10_set_2 : decode cX10_set 2 = .ok (.putfield 13, 3) := dk_181 0 13 (dk_at dksX10_set_0 2 rfl rfl)
theorem dX10_set_5 : decode cX10_set 5 = .ok (.aload_n 0, 1) := dk_42 (dk_at dksX10_set_0 5 rfl rfl)
theorem dX10_set_6 : decode cX10_set 6 = .ok (.iload_n 1, 1) := dk_27 (dk_at dksX10_set_0 6 rfl rfl)
theorem dX10_set_7 : decode cX10_set 7 = .ok (.ifCond .ge 7, 3) := dk_156 0 7 (dk_at dksX10_set_0 7 rfl rfl)
theorem dX10_set_10 : decode cX10_set 10 = .ok (.iconst 1, 1) := dk_4 (dk_at dksX10_set_0 10 rfl rfl)
theorem dX10_set_11 : decode cX10_set 11 = .ok (.goto 4, 3) := dk_167 0 4 (dk_at dksX10_set_0 11 rfl rfl)
theorem dX10_set_14 : decode cX10_set 14 = .ok (.iconst 0, 1) := dk_3 (dk_at dksX10_set_0 14 rfl rfl)
theorem dX10_set_15 : decode cX10_set 15 = .ok (.putfield 17, 3) := dk_181 0 17 (dk_at dksX10_set_0 15 rfl rfl)
theorem dX10_set_18 : decode cX10_set 18 = .ok (.iload_n 1, 1) := dk_27 (dk_at dksX10_set_0 18 rfl rfl)
theorem dX10_set_19 : decode cX10_set 19 = .ok (.invokestatic 21, 3) := dk_184 0 21 (dk_at dksX10_set_0 19 rfl rfl)
theorem dX10_set_22 : decode cX10_set 22 = .ok (.istore_n 2, 1) := dk_61 (dk_at dksX10_set_0 22 rfl rfl)
theorem dX10_set_23 : decode cX10_set 23 = .ok (.iload_n 2, 1) := dk_28 (dk_at dksX10_set_0 23 rfl rfl)
theorem dX10_set_24 : decode cX10_set 24 = .ok (.ifCond .le 31, 3) := dk_158 0 31 (dk_at dksX10_set_1 0 rfl rfl)
theorem dX10_set_27 : decode cX10_set 27 = .ok (.aload_n 0, 1) := dk_42 (dk_at dksX10_set_1 3 rfl rfl)
theorem dX10_set_28 : decode cX10_set 28 = .ok (.getfield 7, 3) := dk_180 0 7 (dk_at dksX10_set_1 4 rfl rfl)
theorem dX10_set_31 : decode cX10_set 31 = .ok (.aload_n 0, 1) := dk_42 (dk_at dksX10_set_1 7 rfl rfl)
theorem dX10_set_32 : decode cX10_set 32 = .ok (.dup, 1) := dk_89 (dk_at dksX10_set_1 8 rfl rfl)
theorem dX10_set_33 : decode cX10_set 33 = .ok (.getfield 13, 3) := dk_180 0 13 (dk_at dksX10_set_1 9 rfl rfl)
theorem dX10_set_36 : decode cX10_set 36 = .ok (.dup_x1, 1) := dk_90 (dk_at dksX10_set_1 12 rfl rfl)
theorem dX10_set_37 : decode cX10_set 37 = .ok (.iconst 1, 1) := dk_4 (dk_at dksX10_set_1 13 rfl rfl)
theorem dX10_set_38 : decode cX10_set 38 = .ok (.iadd, 1) := dk_96 (dk_at dksX10_set_1 14 rfl rfl)
theorem dX10_set_39 : decode cX10_set 39 = .ok (.putfield 13, 3) := dk_181 0 13 (dk_at dksX10_set_1 15 rfl rfl)
theorem dX10_set_42 : decode cX10_set 42 = .ok (.iload_n 2, 1) := dk_28 (dk_at dksX10_set_1 18 rfl rfl)
theorem dX10_set_43 : decode cX10_set 43 = .ok (.ldc 27, 2) := dk_18 27 (dk_at dksX10_set_1 19 rfl rfl)
theorem dX10_set_45 : decode cX10_set 45 = .ok (.iand, 1) := dk_126 (dk_at dksX10_set_1 21 rfl rfl)
theorem dX10_set_46 : decode cX10_set 46 = .ok (.iastore, 1) := dk_79 (dk_at dksX10_set_1 22 rfl rfl)
theorem dX10_set_47 : decode cX10_set 47 = .ok (.iload_n 2, 1) := dk_28 (dk_at dksX10_set_1 23 rfl rfl)
theorem dX10_set_48 : decode cX10_set 48 = .ok (.bipush 16, 2) := dk_16 16 (dk_at dksX10_set_2 0 rfl rfl)
theorem dX10_set_50 : decode cX10_set 50 = .ok (.ishr, 1) := dk_122 (dk_at dksX10_set_2 2 rfl rfl)
theorem dX10_set_51 : decode cX10_set 51 = .ok (.istore_n 2, 1) := dk_61 (dk_at dksX10_set_2 3 rfl rfl)
theorem dX10_set_52 : decode cX10_set 52 = .ok (.goto (-29), 3) := dk_167 255 227 (dk_at dksX10_set_2 4 rfl rfl)
theorem dX10_set_55 : decode cX10_set 55 = .ok (.return_, 1) := dk_177 (dk_at dksX10_set_2 7 rfl rfl)
abbrev cX10_trim : ByteArray := prog_46_method_5_code
def yX10_trim : MethodName := ⟨RX10, "trim", "(I)V"⟩
def dkwX10_trim_2 : List UInt8 := [180, 0, 13, 158, 0, 7, 4, 167, 0, 4, 3, 126, 181, 0, 17, 177]
abbrev dktX10_trim_2 : List UInt8 := dkwX10_trim_2 ++ []
def dkwX10_trim_1 : List UInt8 := [154, 0, 16, 42, 89, 180, 0, 13, 4, 100, 181, 0, 13, 167, 255, 225, 42, 89, 180, 0, 17, 42]
abbrev dktX10_trim_1 : List UInt8 := dkwX10_trim_1 ++ dktX10_trim_2
def dkwX10_trim_0 : List UInt8 := [42, 27, 181, 0, 13, 42, 180, 0, 13, 158, 0, 30, 42, 180, 0, 7, 42, 180, 0, 13, 4, 100, 46]
abbrev dktX10_trim_0 : List UInt8 := dkwX10_trim_0 ++ dktX10_trim_1
theorem dksX10_trim_0 : cX10_trim.data.toList.drop 0 = dktX10_trim_0 := by decide +kernel
theorem dksX10_trim_1 : cX10_trim.data.toList.drop 23 = dktX10_trim_1 := dk_seg dksX10_trim_0 23 rfl rfl
theorem dksX10_trim_2 : cX10_trim.data.toList.drop 45 = dktX10_trim_2 := dk_seg dksX10_trim_1 22 rfl rfl
theorem dX10_trim_0 : decode cX10_trim 0 = .ok (.aload_n 0, 1) := dk_42 (dk_at dksX10_trim_0 0 rfl rfl)
theorem dX10_trim_1 : decode cX10_trim 1 = .ok (.iload_n 1, 1) := dk_27 (dk_at dksX10_trim_0 1 rfl rfl)
theorem dX10_trim_2 : decode cX10_trim 2 = .ok (.putfield 13, 3) := dk_181 0 13 (dk_at dksX10_trim_0 2 rfl rfl)
theorem dX10_trim_5 : decode cX10_trim 5 = .ok (.aload_n 0, 1) := dk_42 (dk_at dksX10_trim_0 5 rfl rfl)
theorem dX10_trim_6 : decode cX10_trim 6 = .ok (.getfield 13, 3) := dk_180 0 13 (dk_at dksX10_trim_0 6 rfl rfl)
theorem dX10_trim_9 : decode cX10_trim 9 = .ok (.ifCond .le 30, 3) := dk_158 0 30 (dk_at dksX10_trim_0 9 rfl rfl)
theorem dX10_trim_12 : decode cX10_trim 12 = .ok (.aload_n 0, 1) := dk_42 (dk_at dksX10_trim_0 12 rfl rfl)
theorem dX10_trim_13 : decode cX10_trim 13 = .ok (.getfield 7, 3) := dk_180 0 7 (dk_at dksX10_trim_0 13 rfl rfl)
theorem dX10_trim_16 : decode cX10_trim 16 = .ok (.aload_n 0, 1) := dk_42 (dk_at dksX10_trim_0 16 rfl rfl)
theorem dX10_trim_17 : decode cX10_trim 17 = .ok (.getfield 13, 3) := dk_180 0 13 (dk_at dksX10_trim_0 17 rfl rfl)
theorem dX10_trim_20 : decode cX10_trim 20 = .ok (.iconst 1, 1) := dk_4 (dk_at dksX10_trim_0 20 rfl rfl)
theorem dX10_trim_21 : decode cX10_trim 21 = .ok (.isub, 1) := dk_100 (dk_at dksX10_trim_0 21 rfl rfl)
theorem dX10_trim_22 : decode cX10_trim 22 = .ok (.iaload, 1) := dk_46 (dk_at dksX10_trim_0 22 rfl rfl)
theorem dX10_trim_23 : decode cX10_trim 23 = .ok (.ifCond .ne 16, 3) := dk_154 0 16 (dk_at dksX10_trim_1 0 rfl rfl)
theorem dX10_trim_26 : decode cX10_trim 26 = .ok (.aload_n 0, 1) := dk_42 (dk_at dksX10_trim_1 3 rfl rfl)
theorem dX10_trim_27 : decode cX10_trim 27 = .ok (.dup, 1) := dk_89 (dk_at dksX10_trim_1 4 rfl rfl)
theorem dX10_trim_28 : decode cX10_trim 28 = .ok (.getfield 13, 3) := dk_180 0 13 (dk_at dksX10_trim_1 5 rfl rfl)
theorem dX10_trim_31 : decode cX10_trim 31 = .ok (.iconst 1, 1) := dk_4 (dk_at dksX10_trim_1 8 rfl rfl)
theorem dX10_trim_32 : decode cX10_trim 32 = .ok (.isub, 1) := dk_100 (dk_at dksX10_trim_1 9 rfl rfl)
theorem dX10_trim_33 : decode cX10_trim 33 = .ok (.putfield 13, 3) := dk_181 0 13 (dk_at dksX10_trim_1 10 rfl rfl)
theorem dX10_trim_36 : decode cX10_trim 36 = .ok (.goto (-31), 3) := dk_167 255 225 (dk_at dksX10_trim_1 13 rfl rfl)
theorem dX10_trim_39 : decode cX10_trim 39 = .ok (.aload_n 0, 1) := dk_42 (dk_at dksX10_trim_1 16 rfl rfl)
theorem dX10_trim_40 : decode cX10_trim 40 = .ok (.dup, 1) := dk_89 (dk_at dksX10_trim_1 17 rfl rfl)
theorem dX10_trim_41 : decode cX10_trim 41 = .ok (.getfield 17, 3) := dk_180 0 17 (dk_at dksX10_trim_1 18 rfl rfl)
theorem dX10_trim_44 : decode cX10_trim 44 = .ok (.aload_n 0, 1) := dk_42 (dk_at dksX10_trim_1 21 rfl rfl)
theorem dX10_trim_45 : decode cX10_trim 45 = .ok (.getfield 13, 3) := dk_180 0 13 (dk_at dksX10_trim_2 0 rfl rfl)
theorem dX10_trim_48 : decode cX10_trim 48 = .ok (.ifCond .le 7, 3) := dk_158 0 7 (dk_at dksX10_trim_2 3 rfl rfl)
theorem dX10_trim_51 : decode cX10_trim 51 = .ok (.iconst 1, 1) := dk_4 (dk_at dksX10_trim_2 6 rfl rfl)
theorem dX10_trim_52 : decode cX10_trim 52 = .ok (.goto 4, 3) := dk_167 0 4 (dk_at dksX10_trim_2 7 rfl rfl)
theorem dX10_trim_55 : decode cX10_trim 55 = .ok (.iconst 0, 1) := dk_3 (dk_at dksX10_trim_2 10 rfl rfl)
theorem dX10_trim_56 : decode cX10_trim 56 = .ok (.iand, 1) := dk_126 (dk_at dksX10_trim_2 11 rfl rfl)
theorem dX10_trim_57 : decode cX10_trim 57 = .ok (.putfield 17, 3) := dk_181 0 17 (dk_at dksX10_trim_2 12 rfl rfl)
theorem dX10_trim_60 : decode cX10_trim 60 = .ok (.return_, 1) := dk_177 (dk_at dksX10_trim_2 15 rfl rfl)
abbrev cX10_isZero : ByteArray := prog_46_method_2_code
def yX10_isZero : MethodName := ⟨RX10, "isZero", "()Z"⟩
def dkwX10_isZero_0 : List UInt8 := [42, 180, 0, 13, 154, 0, 7, 4, 167, 0, 4, 3, 172]
abbrev dktX10_isZero_0 : List UInt8 := dkwX10_isZero_0 ++ []
theorem dksX10_isZero_0 : cX10_isZero.data.toList.drop 0 = dktX10_isZero_0 := by decide +kernel
theorem dX10_isZero_0 : decode cX10_isZero 0 = .ok (.aload_n 0, 1) := dk_42 (dk_at dksX10_isZero_0 0 rfl rfl)
theorem dX10_isZero_1 : decode cX10_isZero 1 = .ok (.getfield 13, 3) := dk_180 0 13 (dk_at dksX10_isZero_0 1 rfl rfl)
theorem dX10_isZero_4 : decode cX10_isZero 4 = .ok (.ifCond .ne 7, 3) := dk_154 0 7 (dk_at dksX10_isZero_0 4 rfl rfl)
theorem dX10_isZero_7 : decode cX10_isZero 7 = .ok (.iconst 1, 1) := dk_4 (dk_at dksX10_isZero_0 7 rfl rfl)
theorem dX10_isZero_8 : decode cX10_isZero 8 = .ok (.goto 4, 3) := dk_167 0 4 (dk_at dksX10_isZero_0 8 rfl rfl)
theorem dX10_isZero_11 : decode cX10_isZero 11 = .ok (.iconst 0, 1) := dk_3 (dk_at dksX10_isZero_0 11 rfl rfl)
theorem dX10_isZero_12 : decode cX10_isZero 12 = .ok (.ireturn, 1) := dk_172 (dk_at dksX10_isZero_0 12 rfl rfl)
abbrev cX10_compareSize : ByteArray := prog_46_method_7_code
def yX10_compareSize : MethodName := ⟨RX10, "compareSize", "(LWasteHouse$ShareSolve$Whole;)I"⟩
def dkwX10_compareSize_3 : List UInt8 := [180, 0, 7, 28, 46, 43, 180, 0, 7, 28, 46, 162, 0, 7, 2, 167, 0, 4, 4, 172]
abbrev dktX10_compareSize_3 : List UInt8 := dkwX10_compareSize_3 ++ []
def dkwX10_compareSize_2 : List UInt8 := [180, 0, 7, 28, 46, 160, 0, 9, 132, 2, 255, 167, 255, 234, 28, 156, 0, 7, 3, 167, 0, 23, 42]
abbrev dktX10_compareSize_2 : List UInt8 := dkwX10_compareSize_2 ++ dktX10_compareSize_3
def dkwX10_compareSize_1 : List UInt8 := [167, 0, 4, 4, 172, 42, 180, 0, 13, 4, 100, 61, 28, 155, 0, 24, 42, 180, 0, 7, 28, 46, 43]
abbrev dktX10_compareSize_1 : List UInt8 := dkwX10_compareSize_1 ++ dktX10_compareSize_2
def dkwX10_compareSize_0 : List UInt8 := [42, 180, 0, 13, 43, 180, 0, 13, 159, 0, 20, 42, 180, 0, 13, 43, 180, 0, 13, 162, 0, 7, 2]
abbrev dktX10_compareSize_0 : List UInt8 := dkwX10_compareSize_0 ++ dktX10_compareSize_1
theorem dksX10_compareSize_0 : cX10_compareSize.data.toList.drop 0 = dktX10_compareSize_0 := by decide +kernel
theorem dksX10_compareSize_1 : cX10_compareSize.data.toList.drop 23 = dktX10_compareSize_1 := dk_seg dksX10_compareSize_0 23 rfl rfl
theorem dksX10_compareSize_2 : cX10_compareSize.data.toList.drop 46 = dktX10_compareSize_2 := dk_seg dksX10_compareSize_1 23 rfl rfl
theorem dksX10_compareSize_3 : cX10_compareSize.data.toList.drop 69 = dktX10_compareSize_3 := dk_seg dksX10_compareSize_2 23 rfl rfl
theorem dX10_compareSize_0 : decode cX10_compareSize 0 = .ok (.aload_n 0, 1) := dk_42 (dk_at dksX10_compareSize_0 0 rfl rfl)
theorem dX10_compareSize_1 : decode cX10_compareSize 1 = .ok (.getfield 13, 3) := dk_180 0 13 (dk_at dksX10_compareSize_0 1 rfl rfl)
theorem dX10_compareSize_4 : decode cX10_compareSize 4 = .ok (.aload_n 1, 1) := dk_43 (dk_at dksX10_compareSize_0 4 rfl rfl)
theorem dX10_compareSize_5 : decode cX10_compareSize 5 = .ok (.getfield 13, 3) := dk_180 0 13 (dk_at dksX10_compareSize_0 5 rfl rfl)
theorem dX10_compareSize_8 : decode cX10_compareSize 8 = .ok (.if_icmp .eq 20, 3) := dk_159 0 20 (dk_at dksX10_compareSize_0 8 rfl rfl)
theorem dX10_compareSize_11 : decode cX10_compareSize 11 = .ok (.aload_n 0, 1) := dk_42 (dk_at dksX10_compareSize_0 11 rfl rfl)
theorem dX10_compareSize_12 : decode cX10_compareSize 12 = .ok (.getfield 13, 3) := dk_180 0 13 (dk_at dksX10_compareSize_0 12 rfl rfl)
theorem dX10_compareSize_15 : decode cX10_compareSize 15 = .ok (.aload_n 1, 1) := dk_43 (dk_at dksX10_compareSize_0 15 rfl rfl)
theorem dX10_compareSize_16 : decode cX10_compareSize 16 = .ok (.getfield 13, 3) := dk_180 0 13 (dk_at dksX10_compareSize_0 16 rfl rfl)
theorem dX10_compareSize_19 : decode cX10_compareSize 19 = .ok (.if_icmp .ge 7, 3) := dk_162 0 7 (dk_at dksX10_compareSize_0 19 rfl rfl)
theorem dX10_compareSize_22 : decode cX10_compareSize 22 = .ok (.iconst (-1), 1) := dk_2 (dk_at dksX10_compareSize_0 22 rfl rfl)
theorem dX10_compareSize_23 : decode cX10_compareSize 23 = .ok (.goto 4, 3) := dk_167 0 4 (dk_at dksX10_compareSize_1 0 rfl rfl)
theorem dX10_compareSize_26 : decode cX10_compareSize 26 = .ok (.iconst 1, 1) := dk_4 (dk_at dksX10_compareSize_1 3 rfl rfl)
theorem dX10_compareSize_27 : decode cX10_compareSize 27 = .ok (.ireturn, 1) := dk_172 (dk_at dksX10_compareSize_1 4 rfl rfl)
theorem dX10_compareSize_28 : decode cX10_compareSize 28 = .ok (.aload_n 0, 1) := dk_42 (dk_at dksX10_compareSize_1 5 rfl rfl)
theorem dX10_compareSize_29 : decode cX10_compareSize 29 = .ok (.getfield 13, 3) := dk_180 0 13 (dk_at dksX10_compareSize_1 6 rfl rfl)
theorem dX10_compareSize_32 : decode cX10_compareSize 32 = .ok (.iconst 1, 1) := dk_4 (dk_at dksX10_compareSize_1 9 rfl rfl)
theorem dX10_compareSize_33 : decode cX10_compareSize 33 = .ok (.isub, 1) := dk_100 (dk_at dksX10_compareSize_1 10 rfl rfl)
theorem dX10_compareSize_34 : decode cX10_compareSize 34 = .ok (.istore_n 2, 1) := dk_61 (dk_at dksX10_compareSize_1 11 rfl rfl)
theorem dX10_compareSize_35 : decode cX10_compareSize 35 = .ok (.iload_n 2, 1) := dk_28 (dk_at dksX10_compareSize_1 12 rfl rfl)
theorem dX10_compareSize_36 : decode cX10_compareSize 36 = .ok (.ifCond .lt 24, 3) := dk_155 0 24 (dk_at dksX10_compareSize_1 13 rfl rfl)
theorem dX10_compareSize_39 : decode cX10_compareSize 39 = .ok (.aload_n 0, 1) := dk_42 (dk_at dksX10_compareSize_1 16 rfl rfl)
theorem dX10_compareSize_40 : decode cX10_compareSize 40 = .ok (.getfield 7, 3) := dk_180 0 7 (dk_at dksX10_compareSize_1 17 rfl rfl)
theorem dX10_compareSize_43 : decode cX10_compareSize 43 = .ok (.iload_n 2, 1) := dk_28 (dk_at dksX10_compareSize_1 20 rfl rfl)
theorem dX10_compareSize_44 : decode cX10_compareSize 44 = .ok (.iaload, 1) := dk_46 (dk_at dksX10_compareSize_1 21 rfl rfl)
theorem dX10_compareSize_45 : decode cX10_compareSize 45 = .ok (.aload_n 1, 1) := dk_43 (dk_at dksX10_compareSize_1 22 rfl rfl)
theorem dX10_compareSize_46 : decode cX10_compareSize 46 = .ok (.getfield 7, 3) := dk_180 0 7 (dk_at dksX10_compareSize_2 0 rfl rfl)
theorem dX10_compareSize_49 : decode cX10_compareSize 49 = .ok (.iload_n 2, 1) := dk_28 (dk_at dksX10_compareSize_2 3 rfl rfl)
theorem dX10_compareSize_50 : decode cX10_compareSize 50 = .ok (.iaload, 1) := dk_46 (dk_at dksX10_compareSize_2 4 rfl rfl)
theorem dX10_compareSize_51 : decode cX10_compareSize 51 = .ok (.if_icmp .ne 9, 3) := dk_160 0 9 (dk_at dksX10_compareSize_2 5 rfl rfl)
theorem dX10_compareSize_54 : decode cX10_compareSize 54 = .ok (.iinc 2 (-1), 3) := dk_132 2 255 (dk_at dksX10_compareSize_2 8 rfl rfl)
theorem dX10_compareSize_57 : decode cX10_compareSize 57 = .ok (.goto (-22), 3) := dk_167 255 234 (dk_at dksX10_compareSize_2 11 rfl rfl)
theorem dX10_compareSize_60 : decode cX10_compareSize 60 = .ok (.iload_n 2, 1) := dk_28 (dk_at dksX10_compareSize_2 14 rfl rfl)
theorem dX10_compareSize_61 : decode cX10_compareSize 61 = .ok (.ifCond .ge 7, 3) := dk_156 0 7 (dk_at dksX10_compareSize_2 15 rfl rfl)
theorem dX10_compareSize_64 : decode cX10_compareSize 64 = .ok (.iconst 0, 1) := dk_3 (dk_at dksX10_compareSize_2 18 rfl rfl)
theorem dX10_compareSize_65 : decode cX10_compareSize 65 = .ok (.goto 23, 3) := dk_167 0 23 (dk_at dksX10_compareSize_2 19 rfl rfl)
theorem dX10_compareSize_68 : decode cX10_compareSize 68 = .ok (.aload_n 0, 1) := dk_42 (dk_at dksX10_compareSize_2 22 rfl rfl)
theorem dX10_compareSize_69 : decode cX10_compareSize 69 = .ok (.getfield 7, 3) := dk_180 0 7 (dk_at dksX10_compareSize_3 0 rfl rfl)
theorem dX10_compareSize_72 : decode cX10_compareSize 72 = .ok (.iload_n 2, 1) := dk_28 (dk_at dksX10_compareSize_3 3 rfl rfl)
theorem dX10_compareSize_73 : decode cX10_compareSize 73 = .ok (.iaload, 1) := dk_46 (dk_at dksX10_compareSize_3 4 rfl rfl)
theorem dX10_compareSize_74 : decode cX10_compareSize 74 = .ok (.aload_n 1, 1) := dk_43 (dk_at dksX10_compareSize_3 5 rfl rfl)
theorem dX10_compareSize_75 : decode cX10_compareSize 75 = .ok (.getfield 7, 3) := dk_180 0 7 (dk_at dksX10_compareSize_3 6 rfl rfl)
theorem dX10_compareSize_78 : decode cX10_compareSize 78 = .ok (.iload_n 2, 1) := dk_28 (dk_at dksX10_compareSize_3 9 rfl rfl)
theorem dX10_compareSize_79 : decode cX10_compareSize 79 = .ok (.iaload, 1) := dk_46 (dk_at dksX10_compareSize_3 10 rfl rfl)
theorem dX10_compareSize_80 : decode cX10_compareSize 80 = .ok (.if_icmp .ge 7, 3) := dk_162 0 7 (dk_at dksX10_compareSize_3 11 rfl rfl)
theorem dX10_compareSize_83 : decode cX10_compareSize 83 = .ok (.iconst (-1), 1) := dk_2 (dk_at dksX10_compareSize_3 14 rfl rfl)
theorem dX10_compareSize_84 : decode cX10_compareSize 84 = .ok (.goto 4, 3) := dk_167 0 4 (dk_at dksX10_compareSize_3 15 rfl rfl)
theorem dX10_compareSize_87 : decode cX10_compareSize 87 = .ok (.iconst 1, 1) := dk_4 (dk_at dksX10_compareSize_3 18 rfl rfl)
theorem dX10_compareSize_88 : decode cX10_compareSize 88 = .ok (.ireturn, 1) := dk_172 (dk_at dksX10_compareSize_3 19 rfl rfl)
abbrev cX10_at : ByteArray := prog_46_method_6_code
def yX10_at : MethodName := ⟨RX10, "at", "(I)I"⟩
def dkwX10_at_0 : List UInt8 := [27, 42, 180, 0, 13, 162, 0, 12, 42, 180, 0, 7, 27, 46, 167, 0, 4, 3, 172]
abbrev dktX10_at_0 : List UInt8 := dkwX10_at_0 ++ []
theorem dksX10_at_0 : cX10_at.data.toList.drop 0 = dktX10_at_0 := by decide +kernel
theorem dX10_at_0 : decode cX10_at 0 = .ok (.iload_n 1, 1) := dk_27 (dk_at dksX10_at_0 0 rfl rfl)
theorem dX10_at_1 : decode cX10_at 1 = .ok (.aload_n 0, 1) := dk_42 (dk_at dksX10_at_0 1 rfl rfl)
theorem dX10_at_2 : decode cX10_at 2 = .ok (.getfield 13, 3) := dk_180 0 13 (dk_at dksX10_at_0 2 rfl rfl)
theorem dX10_at_5 : decode cX10_at 5 = .ok (.if_icmp .ge 12, 3) := dk_162 0 12 (dk_at dksX10_at_0 5 rfl rfl)
theorem dX10_at_8 : decode cX10_at 8 = .ok (.aload_n 0, 1) := dk_42 (dk_at dksX10_at_0 8 rfl rfl)
theorem dX10_at_9 : decode cX10_at 9 = .ok (.getfield 7, 3) := dk_180 0 7 (dk_at dksX10_at_0 9 rfl rfl)
theorem dX10_at_12 : decode cX10_at 12 = .ok (.iload_n 1, 1) := dk_27 (dk_at dksX10_at_0 12 rfl rfl)
theorem dX10_at_13 : decode cX10_at 13 = .ok (.iaload, 1) := dk_46 (dk_at dksX10_at_0 13 rfl rfl)
theorem dX10_at_14 : decode cX10_at 14 = .ok (.goto 4, 3) := dk_167 0 4 (dk_at dksX10_at_0 14 rfl rfl)
theorem dX10_at_17 : decode cX10_at 17 = .ok (.iconst 0, 1) := dk_3 (dk_at dksX10_at_0 17 rfl rfl)
theorem dX10_at_18 : decode cX10_at 18 = .ok (.ireturn, 1) := dk_172 (dk_at dksX10_at_0 18 rfl rfl)
abbrev cX10_copy : ByteArray := prog_46_method_4_code
def yX10_copy : MethodName := ⟨RX10, "copy", "(LWasteHouse$ShareSolve$Whole;)V"⟩
def dkwX10_copy_1 : List UInt8 := [181, 0, 13, 42, 43, 180, 0, 17, 181, 0, 17, 177]
abbrev dktX10_copy_1 : List UInt8 := dkwX10_copy_1 ++ []
def dkwX10_copy_0 : List UInt8 := [43, 180, 0, 7, 3, 42, 180, 0, 7, 3, 43, 180, 0, 13, 184, 0, 28, 42, 43, 180, 0, 13]
abbrev dktX10_copy_0 : List UInt8 := dkwX10_copy_0 ++ dktX10_copy_1
theorem dksX10_copy_0 : cX10_copy.data.toList.drop 0 = dktX10_copy_0 := by decide +kernel
theorem dksX10_copy_1 : cX10_copy.data.toList.drop 22 = dktX10_copy_1 := dk_seg dksX10_copy_0 22 rfl rfl
theorem dX10_copy_0 : decode cX10_copy 0 = .ok (.aload_n 1, 1) := dk_43 (dk_at dksX10_copy_0 0 rfl rfl)
theorem dX10_copy_1 : decode cX10_copy 1 = .ok (.getfield 7, 3) := dk_180 0 7 (dk_at dksX10_copy_0 1 rfl rfl)
theorem dX10_copy_4 : decode cX10_copy 4 = .ok (.iconst 0, 1) := dk_3 (dk_at dksX10_copy_0 4 rfl rfl)
theorem dX10_copy_5 : decode cX10_copy 5 = .ok (.aload_n 0, 1) := dk_42 (dk_at dksX10_copy_0 5 rfl rfl)
theorem dX10_copy_6 : decode cX10_copy 6 = .ok (.getfield 7, 3) := dk_180 0 7 (dk_at dksX10_copy_0 6 rfl rfl)
theorem dX10_copy_9 : decode cX10_copy 9 = .ok (.iconst 0, 1) := dk_3 (dk_at dksX10_copy_0 9 rfl rfl)
theorem dX10_copy_10 : decode cX10_copy 10 = .ok (.aload_n 1, 1) := dk_43 (dk_at dksX10_copy_0 10 rfl rfl)
theorem dX10_copy_11 : decode cX10_copy 11 = .ok (.getfield 13, 3) := dk_180 0 13 (dk_at dksX10_copy_0 11 rfl rfl)
theorem dX10_copy_14 : decode cX10_copy 14 = .ok (.invokestatic 28, 3) := dk_184 0 28 (dk_at dksX10_copy_0 14 rfl rfl)
theorem dX10_copy_17 : decode cX10_copy 17 = .ok (.aload_n 0, 1) := dk_42 (dk_at dksX10_copy_0 17 rfl rfl)
theorem dX10_copy_18 : decode cX10_copy 18 = .ok (.aload_n 1, 1) := dk_43 (dk_at dksX10_copy_0 18 rfl rfl)
theorem dX10_copy_19 : decode cX10_copy 19 = .ok (.getfield 13, 3) := dk_180 0 13 (dk_at dksX10_copy_0 19 rfl rfl)
theorem dX10_copy_22 : decode cX10_copy 22 = .ok (.putfield 13, 3) := dk_181 0 13 (dk_at dksX10_copy_1 0 rfl rfl)
theorem dX10_copy_25 : decode cX10_copy 25 = .ok (.aload_n 0, 1) := dk_42 (dk_at dksX10_copy_1 3 rfl rfl)
theorem dX10_copy_26 : decode cX10_copy 26 = .ok (.aload_n 1, 1) := dk_43 (dk_at dksX10_copy_1 4 rfl rfl)
theorem dX10_copy_27 : decode cX10_copy 27 = .ok (.getfield 17, 3) := dk_180 0 17 (dk_at dksX10_copy_1 5 rfl rfl)
theorem dX10_copy_30 : decode cX10_copy 30 = .ok (.putfield 17, 3) := dk_181 0 17 (dk_at dksX10_copy_1 8 rfl rfl)
theorem dX10_copy_33 : decode cX10_copy 33 = .ok (.return_, 1) := dk_177 (dk_at dksX10_copy_1 11 rfl rfl)
theorem q407 : (Jvm.Cond.initialized "WasteHouse$ShareSolve$Whole") ∈ lw_all := lw_g (lw_at lw_m1 15 rfl) rfl
theorem q723 : (Jvm.Cond.instantiable "WasteHouse$ShareSolve$Whole" (3 : Nat)) ∈ lw_all := lw_g (lw_at lw_m2 91 rfl) rfl
theorem q725 : (Jvm.Cond.instanceMethod ({ cls := "WasteHouse$ShareSolve$Whole", name := "<init>", desc := "()V" } : Jvm.MethodName)) ∈ lw_all := lw_g (lw_at lw_m2 93 rfl) rfl
theorem q726 : (Jvm.Cond.code ({ cls := "WasteHouse$ShareSolve$Whole", name := "<init>", desc := "()V" } : Jvm.MethodName) prog_46_method_1_code (1 : Nat) (Option.none : Option Jvm.ClassFile.FieldType)) ∈ lw_all := lw_g (lw_at lw_m2 94 rfl) rfl
theorem q727 : (Jvm.Cond.methodLink "WasteHouse$ShareSolve$Whole" (1 : Nat) ({ cls := "java/lang/Object", name := "<init>", desc := "()V" } : Jvm.MethodName)) ∈ lw_all := lw_g (lw_at lw_m2 95 rfl) rfl
theorem q728 : (Jvm.Cond.fieldLink "WasteHouse$ShareSolve$Whole" (7 : Nat) "WasteHouse$ShareSolve$Whole" "digits" "[I") ∈ lw_all := lw_g (lw_at lw_m2 96 rfl) rfl
theorem q731 : (Jvm.Cond.fieldLink "WasteHouse$ShareSolve$Whole" (13 : Nat) "WasteHouse$ShareSolve$Whole" "count" "I") ∈ lw_all := lw_g (lw_at lw_m2 99 rfl) rfl
theorem q734 : (Jvm.Cond.fieldLink "WasteHouse$ShareSolve$Whole" (17 : Nat) "WasteHouse$ShareSolve$Whole" "negative" "Z") ∈ lw_all := lw_g (lw_at lw_m2 102 rfl) rfl
theorem q737 : (Jvm.Cond.laysFinal "WasteHouse$ShareSolve$Whole" "WasteHouse$ShareSolve$Whole" "digits" "[I") ∈ lw_all := lw_g (lw_at lw_m2 105 rfl) rfl
theorem q738 : (Jvm.Cond.soleField "WasteHouse$ShareSolve$Whole" "digits") ∈ lw_all := lw_g (lw_at lw_m2 106 rfl) rfl
theorem q739 : (Jvm.Cond.lays "WasteHouse$ShareSolve$Whole" "WasteHouse$ShareSolve$Whole" "count" "I") ∈ lw_all := lw_g (lw_at lw_m2 107 rfl) rfl
theorem q740 : (Jvm.Cond.soleField "WasteHouse$ShareSolve$Whole" "count") ∈ lw_all := lw_g (lw_at lw_m2 108 rfl) rfl
theorem q741 : (Jvm.Cond.lays "WasteHouse$ShareSolve$Whole" "WasteHouse$ShareSolve$Whole" "negative" "Z") ∈ lw_all := lw_g (lw_at lw_m2 109 rfl) rfl
theorem q742 : (Jvm.Cond.soleField "WasteHouse$ShareSolve$Whole" "negative") ∈ lw_all := lw_g (lw_at lw_m2 110 rfl) rfl
theorem q743 : (Jvm.Cond.superclass "WasteHouse$ShareSolve$Whole" "java/lang/Object") ∈ lw_all := lw_g (lw_at lw_m2 111 rfl) rfl
theorem q796 : (Jvm.Cond.instanceMethod ({ cls := "WasteHouse$ShareSolve$Whole", name := "set", desc := "(I)V" } : Jvm.MethodName)) ∈ lw_all := lw_g (lw_at lw_m2 164 rfl) rfl
theorem q797 : (Jvm.Cond.selects "WasteHouse$ShareSolve$Whole" ({ cls := "WasteHouse$ShareSolve$Whole", name := "set", desc := "(I)V" } : Jvm.MethodName) ({ cls := "WasteHouse$ShareSolve$Whole", name := "set", desc := "(I)V" } : Jvm.MethodName)) ∈ lw_all := lw_g (lw_at lw_m2 165 rfl) rfl
theorem q798 : (Jvm.Cond.code ({ cls := "WasteHouse$ShareSolve$Whole", name := "set", desc := "(I)V" } : Jvm.MethodName) prog_46_method_3_code (3 : Nat) (Option.none : Option Jvm.ClassFile.FieldType)) ∈ lw_all := lw_g (lw_at lw_m2 166 rfl) rfl
theorem q799 : (Jvm.Cond.methodLink "WasteHouse$ShareSolve$Whole" (21 : Nat) ({ cls := "java/lang/Math", name := "abs", desc := "(I)I" } : Jvm.MethodName)) ∈ lw_all := lw_g (lw_at lw_m2 167 rfl) rfl
theorem q802 : (Jvm.Cond.constant "WasteHouse$ShareSolve$Whole" (27 : Nat) (65535 : Int32)) ∈ lw_all := lw_g (lw_at lw_m2 170 rfl) rfl
theorem q2015 : (Jvm.Cond.selects "WasteHouse$ShareSolve$Whole" ({ cls := "java/lang/Object", name := "getClass", desc := "()Ljava/lang/Class;" } : Jvm.MethodName) ({ cls := "java/lang/Object", name := "getClass", desc := "()Ljava/lang/Class;" } : Jvm.MethodName)) ∈ lw_all := lw_g (lw_at lw_m7 183 rfl) rfl
theorem q3125 : (Jvm.Cond.selects "WasteHouse$ShareSolve$Whole" ({ cls := "java/lang/Object", name := "equals", desc := "(Ljava/lang/Object;)Z" } : Jvm.MethodName) ({ cls := "java/lang/Object", name := "equals", desc := "(Ljava/lang/Object;)Z" } : Jvm.MethodName)) ∈ lw_all := lw_g (lw_at lw_m12 93 rfl) rfl
theorem q3643 : (Jvm.Cond.selects "WasteHouse$ShareSolve$Whole" ({ cls := "java/lang/Object", name := "hashCode", desc := "()I" } : Jvm.MethodName) ({ cls := "java/lang/Object", name := "hashCode", desc := "()I" } : Jvm.MethodName)) ∈ lw_all := lw_g (lw_at lw_m14 131 rfl) rfl
theorem q5278 : (Jvm.Cond.instanceMethod ({ cls := "WasteHouse$ShareSolve$Whole", name := "trim", desc := "(I)V" } : Jvm.MethodName)) ∈ lw_all := lw_g (lw_at lw_m21 86 rfl) rfl
theorem q5279 : (Jvm.Cond.selects "WasteHouse$ShareSolve$Whole" ({ cls := "WasteHouse$ShareSolve$Whole", name := "trim", desc := "(I)V" } : Jvm.MethodName) ({ cls := "WasteHouse$ShareSolve$Whole", name := "trim", desc := "(I)V" } : Jvm.MethodName)) ∈ lw_all := lw_g (lw_at lw_m21 87 rfl) rfl
theorem q5280 : (Jvm.Cond.code ({ cls := "WasteHouse$ShareSolve$Whole", name := "trim", desc := "(I)V" } : Jvm.MethodName) prog_46_method_5_code (2 : Nat) (Option.none : Option Jvm.ClassFile.FieldType)) ∈ lw_all := lw_g (lw_at lw_m21 88 rfl) rfl
theorem q5282 : (Jvm.Cond.instanceMethod ({ cls := "WasteHouse$ShareSolve$Whole", name := "isZero", desc := "()Z" } : Jvm.MethodName)) ∈ lw_all := lw_g (lw_at lw_m21 90 rfl) rfl
theorem q5283 : (Jvm.Cond.selects "WasteHouse$ShareSolve$Whole" ({ cls := "WasteHouse$ShareSolve$Whole", name := "isZero", desc := "()Z" } : Jvm.MethodName) ({ cls := "WasteHouse$ShareSolve$Whole", name := "isZero", desc := "()Z" } : Jvm.MethodName)) ∈ lw_all := lw_g (lw_at lw_m21 91 rfl) rfl
theorem q5284 : (Jvm.Cond.code ({ cls := "WasteHouse$ShareSolve$Whole", name := "isZero", desc := "()Z" } : Jvm.MethodName) prog_46_method_2_code (1 : Nat) (Option.some Jvm.ClassFile.FieldType.boolean)) ∈ lw_all := lw_g (lw_at lw_m21 92 rfl) rfl
theorem q5294 : (Jvm.Cond.instanceMethod ({ cls := "WasteHouse$ShareSolve$Whole", name := "compareSize", desc := "(LWasteHouse$ShareSolve$Whole;)I" } : Jvm.MethodName)) ∈ lw_all := lw_g (lw_at lw_m21 102 rfl) rfl
theorem q5295 : (Jvm.Cond.selects "WasteHouse$ShareSolve$Whole" ({ cls := "WasteHouse$ShareSolve$Whole", name := "compareSize", desc := "(LWasteHouse$ShareSolve$Whole;)I" } : Jvm.MethodName) ({ cls := "WasteHouse$ShareSolve$Whole", name := "compareSize", desc := "(LWasteHouse$ShareSolve$Whole;)I" } : Jvm.MethodName)) ∈ lw_all := lw_g (lw_at lw_m21 103 rfl) rfl
theorem q5296 : (Jvm.Cond.code ({ cls := "WasteHouse$ShareSolve$Whole", name := "compareSize", desc := "(LWasteHouse$ShareSolve$Whole;)I" } : Jvm.MethodName) prog_46_method_7_code (3 : Nat) (Option.some Jvm.ClassFile.FieldType.int)) ∈ lw_all := lw_g (lw_at lw_m21 104 rfl) rfl
theorem q5299 : (Jvm.Cond.instanceMethod ({ cls := "WasteHouse$ShareSolve$Whole", name := "at", desc := "(I)I" } : Jvm.MethodName)) ∈ lw_all := lw_g (lw_at lw_m21 107 rfl) rfl
theorem q5300 : (Jvm.Cond.selects "WasteHouse$ShareSolve$Whole" ({ cls := "WasteHouse$ShareSolve$Whole", name := "at", desc := "(I)I" } : Jvm.MethodName) ({ cls := "WasteHouse$ShareSolve$Whole", name := "at", desc := "(I)I" } : Jvm.MethodName)) ∈ lw_all := lw_g (lw_at lw_m21 108 rfl) rfl
theorem q5301 : (Jvm.Cond.code ({ cls := "WasteHouse$ShareSolve$Whole", name := "at", desc := "(I)I" } : Jvm.MethodName) prog_46_method_6_code (2 : Nat) (Option.some Jvm.ClassFile.FieldType.int)) ∈ lw_all := lw_g (lw_at lw_m21 109 rfl) rfl
theorem q5311 : (Jvm.Cond.instanceMethod ({ cls := "WasteHouse$ShareSolve$Whole", name := "copy", desc := "(LWasteHouse$ShareSolve$Whole;)V" } : Jvm.MethodName)) ∈ lw_all := lw_g (lw_at lw_m21 119 rfl) rfl
theorem q5312 : (Jvm.Cond.selects "WasteHouse$ShareSolve$Whole" ({ cls := "WasteHouse$ShareSolve$Whole", name := "copy", desc := "(LWasteHouse$ShareSolve$Whole;)V" } : Jvm.MethodName) ({ cls := "WasteHouse$ShareSolve$Whole", name := "copy", desc := "(LWasteHouse$ShareSolve$Whole;)V" } : Jvm.MethodName)) ∈ lw_all := lw_g (lw_at lw_m21 120 rfl) rfl
theorem q5313 : (Jvm.Cond.code ({ cls := "WasteHouse$ShareSolve$Whole", name := "copy", desc := "(LWasteHouse$ShareSolve$Whole;)V" } : Jvm.MethodName) prog_46_method_4_code (2 : Nat) (Option.none : Option Jvm.ClassFile.FieldType)) ∈ lw_all := lw_g (lw_at lw_m21 121 rfl) rfl
theorem q5314 : (Jvm.Cond.methodLink "WasteHouse$ShareSolve$Whole" (28 : Nat) ({ cls := "java/lang/System", name := "arraycopy", desc := "(Ljava/lang/Object;ILjava/lang/Object;II)V" } : Jvm.MethodName)) ∈ lw_all := lw_g (lw_at lw_m21 122 rfl) rfl
theorem q9618 : (Jvm.Cond.castable "WasteHouse$ShareSolve$Whole" "java/lang/Object") ∈ lw_tbl := lw_at lw_m39 106 rfl
theorem in_X10 : ∀ w ∈ wsX100, w ∈ lw_all := lw_in wsX100 [737, 739, 741] (by decide +kernel) (by decide +kernel)
