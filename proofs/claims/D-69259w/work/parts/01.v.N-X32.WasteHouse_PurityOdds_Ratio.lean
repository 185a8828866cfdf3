/-! WasteHouse$PurityOdds$Ratio -/
set_option maxRecDepth 100000
def RX32 : String := "WasteHouse$PurityOdds$Ratio"
def TX32 : u_T := fun k => match k with
  | 0 => ("WasteHouse$PurityOdds$Ratio", "above", "J", false)
  | _ => ("WasteHouse$PurityOdds$Ratio", "below", "J", false)
def tyX32 : Nat → FieldType := fun k => match k with
  | 0 => .long
  | _ => .long
abbrev wsX320 : List Cond := u_ws RX32 TX32 2
theorem nmX32 : ∀ a, a < 2 → ∀ b, b < 2 → a ≠ b → (TX32 a).2.1 ≠ (TX32 b).2.1 := by decide +kernel
theorem tyX32_ok : ∀ k, k < 2 → parseFieldDescriptor (TX32 k).2.2.1 = some (tyX32 k) := by decide +kernel
abbrev cX32_init : ByteArray := prog_34_method_1_code
def yX32_init : MethodName := ⟨RX32, "<init>", "()V"⟩
def dkwX32_init_0 : List UInt8 := [42, 183, 0, 3, 42, 10, 181, 0, 9, 177]
abbrev dktX32_init_0 : List UInt8 := dkwX32_init_0 ++ []
theorem dksX32_init_0 : cX32_init.data.toList.drop 0 = dktX32_init_0 := by decide +kernel
theorem dX32_init_0 : decode cX32_init 0 = .ok (.aload_n 0, 1) := dk_42 (dk_at dksX32_init_0 0 rfl rfl)
theorem dX32_init_1 : decode cX32_init 1 = .ok (.invokespecial 3, 3) := dk_183 0 3 (dk_at dksX32_init_0 1 rfl rfl)
theorem dX32_init_4 : decode cX32_init 4 = .ok (.aload_n 0, 1) := dk_42 (dk_at dksX32_init_0 4 rfl rfl)
theorem dX32_init_5 : decode cX32_init 5 = .ok (.lconst 1, 1) := dk_10 (dk_at dksX32_init_0 5 rfl rfl)
theorem dX32_init_6 : decode cX32_init 6 = .ok (.putfield 9, 3) := dk_181 0 9 (dk_at dksX32_init_0 6 rfl rfl)
theorem dX32_init_9 : decode cX32_init 9 = .ok (.return_, 1) := dk_177 (dk_at dksX32_init_0 9 rfl rfl)
abbrev cX32_set : ByteArray := prog_34_method_2_code
def yX32_set : MethodName := ⟨RX32, "set", "(JJ)V"⟩
def dkwX32_set_1 : List UInt8 := [22, 9, 55, 7, 167, 255, 234, 42, 31, 22, 5, 109, 181, 0, 15, 42, 33, 22, 5, 109, 181, 0, 9, 177]
abbrev dktX32_set_1 : List UInt8 := dkwX32_set_1 ++ []
def dkwX32_set_0 : List UInt8 := [31, 55, 5, 33, 55, 7, 22, 7, 9, 148, 153, 0, 21, 22, 5, 22, 7, 113, 55, 9, 22, 7, 55, 5]
abbrev dktX32_set_0 : List UInt8 := dkwX32_set_0 ++ dktX32_set_1
theorem dksX32_set_0 : cX32_set.data.toList.drop 0 = dktX32_set_0 := by decide +kernel
theorem dksX32_set_1 : cX32_set.data.toList.drop 24 = dktX32_set_1 := dk_seg dksX32_set_0 24 rfl rfl
theorem dX32_set_0 : decode cX32_set 0 = .ok (.lload_n 1, 1) := dk_31 (dk_at dksX32_set_0 0 rfl rfl)
theorem dX32_set_1 : decode cX32_set 1 = .ok (.lstore 5, 2) := dk_55 5 (dk_at dksX32_set_0 1 rfl rfl)
theorem dX32_set_3 : decode cX32_set 3 = .ok (.lload_n 3, 1) := dk_33 (dk_at dksX32_set_0 3 rfl rfl)
theorem dX32_set_4 : decode cX32_set 4 = .ok (.lstore 7, 2) := dk_55 7 (dk_at dksX32_set_0 4 rfl rfl)
theorem dX32_set_6 : decode cX32_set 6 = .ok (.lload 7, 2) := dk_22 7 (dk_at dksX32_set_0 6 rfl rfl)
theorem dX32_set_8 : decode cX32_set 8 = .ok (.lconst 0, 1) := dk_9 (dk_at dksX32_set_0 8 rfl rfl)
theorem dX32_set_9 : decode cX32_set 9 = .ok (.lcmp, 1) := dk_148 (dk_at dksX32_set_0 9 rfl rfl)
theorem dX32_set_10 : decode cX32_set 10 = .ok (.ifCond .eq 21, 3) := dk_153 0 21 (dk_at dksX32_set_0 10 rfl rfl)
theorem dX32_set_13 : decode cX32_set 13 = .ok (.lload 5, 2) := dk_22 5 (dk_at dksX32_set_0 13 rfl rfl)
theorem dX32_set_15 : decode cX32_set 15 = .ok (.lload 7, 2) := dk_22 7 (dk_at dksX32_set_0 15 rfl rfl)
theorem dX32_set_17 : decode cX32_set 17 = .ok (.lrem, 1) := dk_113 (dk_at dksX32_set_0 17 rfl rfl)
theorem dX32_set_18 : decode cX32_set 18 = .ok (.lstore 9, 2) := dk_55 9 (dk_at dksX32_set_0 18 rfl rfl)
theorem dX32_set_20 : decode cX32_set 20 = .ok (.lload 7, 2) := dk_22 7 (dk_at dksX32_set_0 20 rfl rfl)
theorem dX32_set_22 : decode cX32_set 22 = .ok (.lstore 5, 2) := dk_55 5 (dk_at dksX32_set_0 22 rfl rfl)
theorem dX32_set_24 : decode cX32_set 24 = .ok (.lload 9, 2) := dk_22 9 (dk_at dksX32_set_1 0 rfl rfl)
theorem dX32_set_26 : decode cX32_set 26 = .ok (.lstore 7, 2) := dk_55 7 (dk_at dksX32_set_1 2 rfl rfl)
theorem dX32_set_28 : decode cX32_set 28 = .ok (.goto (-22), 3) := dk_167 255 234 (dk_at dksX32_set_1 4 rfl rfl)
theorem dX32_set_31 : decode cX32_set 31 = .ok (.aload_n 0, 1) := dk_42 (dk_at dksX32_set_1 7 rfl rfl)
theorem dX32_set_32 : decode cX32_set 32 = .ok (.lload_n 1, 1) := dk_31 (dk_at dksX32_set_1 8 rfl rfl)
theorem dX32_set_33 : decode cX32_set 33 = .ok (.lload 5, 2) := dk_22 5 (dk_at dksX32_set_1 9 rfl rfl)
theorem dX32_set_35 : decode cX32_set 35 = .ok (.ldiv, 1) := dk_109 (dk_at dksX32_set_1 11 rfl rfl)
theorem dX32_set_36 : decode cX32_set 36 = .ok (.putfield 15, 3) := dk_181 0 15 (dk_at dksX32_set_1 12 rfl rfl)
theorem dX32_set_39 : decode cX32_set 39 = .ok (.aload_n 0, 1) := dk_42 (dk_at dksX32_set_1 15 rfl rfl)
theorem dX32_set_40 : decode cX32_set 40 = .ok (.lload_n 3, 1) := dk_33 (dk_at dksX32_set_1 16 rfl rfl)
theorem dX32_set_41 : decode cX32_set 41 = .ok (.lload 5, 2) := dk_22 5 (dk_at dksX32_set_1 17 rfl rfl)
theorem dX32_set_43 : decode cX32_set 43 = .ok (.ldiv, 1) := dk_109 (dk_at dksX32_set_1 19 rfl rfl)
theorem dX32_set_44 : decode cX32_set 44 = .ok (.putfield 9, 3) := dk_181 0 9 (dk_at dksX32_set_1 20 rfl rfl)
theorem dX32_set_47 : decode cX32_set 47 = .ok (.return_, 1) := dk_177 (dk_at dksX32_set_1 23 rfl rfl)
abbrev cX32_compare : ByteArray := prog_34_method_3_code
def yX32_compare : MethodName := ⟨RX32, "compare", "(LWasteHouse$PurityOdds$Ratio;)I"⟩
def dkwX32_compare_0 : List UInt8 := [42, 180, 0, 15, 43, 180, 0, 9, 105, 43, 180, 0, 15, 42, 180, 0, 9, 105, 101, 184, 0, 18, 172]
abbrev dktX32_compare_0 : List UInt8 := dkwX32_compare_0 ++ []
theorem dksX32_compare_0 : cX32_compare.data.toList.drop 0 = dktX32_compare_0 := by decide +kernel
theorem dX32_compare_0 : decode cX32_compare 0 = .ok (.aload_n 0, 1) := dk_42 (dk_at dksX32_compare_0 0 rfl rfl)
theorem dX32_compare_1 : decode cX32_compare 1 = .ok (.getfield 15, 3) := dk_180 0 15 (dk_at dksX32_compare_0 1 rfl rfl)
theorem dX32_compare_4 : decode cX32_compare 4 = .ok (.aload_n 1, 1) := dk_43 (dk_at dksX32_compare_0 4 rfl rfl)
theorem dX32_compare_5 : decode cX32_compare 5 = .ok (.getfield 9, 3) := dk_180 0 9 (dk_at dksX32_compare_0 5 rfl rfl)
theorem dX32_compare_8 : decode cX32_compare 8 = .ok (.lmul, 1) := dk_105 (dk_at dksX32_compare_0 8 rfl rfl)
theorem dX32_compare_9 : decode cX32_compare 9 = .ok (.aload_n 1, 1) := dk_43 (dk_at dksX32_compare_0 9 rfl rfl)
theorem dX32_compare_10 : decode cX32_compare 10 = .ok (.getfield 15, 3) := dk_180 0 15 (dk_at dksX32_compare_0 10 rfl rfl)
theorem dX32_compare_13 : decode cX32_compare 13 = .ok (.aload_n 0, 1) := dk_42 (dk_at dksX32_compare_0 13 rfl rfl)
theorem dX32_compare_14 : decode cX32_compare 14 = .ok (.getfield 9, 3) := dk_180 0 9 (dk_at dksX32_compare_0 14 rfl rfl)
theorem dX32_compare_17 : decode cX32_compare 17 = .ok (.lmul, 1) := dk_105 (dk_at dksX32_compare_0 17 rfl rfl)
theorem dX32_compare_18 : decode cX32_compare 18 = .ok (.lsub, 1) := dk_101 (dk_at dksX32_compare_0 18 rfl rfl)
theorem dX32_compare_19 : decode cX32_compare 19 = .ok (.invokestatic 18, 3) := dk_184 0 18 (dk_at dksX32_compare_0 19 rfl rfl)
theorem dX32_compare_22 : decode cX32_compare 22 = .ok (.ireturn, 1) := dk_172 (dk_at dksX32_compare_0 22 rfl rfl)
abbrev cX32_part : ByteArray := prog_34_method_4_code
def yX32_part : MethodName := ⟨RX32, "part", "(I)J"⟩
def dkwX32_part_1 : List UInt8 := [20, 0, 24, 173]
abbrev dktX32_part_1 : List UInt8 := dkwX32_part_1 ++ []
def dkwX32_part_0 : List UInt8 := [27, 154, 0, 10, 42, 180, 0, 15, 167, 0, 18, 27, 4, 160, 0, 10, 42, 180, 0, 9, 167, 0, 6]
abbrev dktX32_part_0 : List UInt8 := dkwX32_part_0 ++ dktX32_part_1
theorem dksX32_part_0 : cX32_part.data.toList.drop 0 = dktX32_part_0 := by decide +kernel
theorem dksX32_part_1 : cX32_part.data.toList.drop 23 = dktX32_part_1 := dk_seg dksX32_part_0 23 rfl rfl
theorem dX32_part_0 : decode cX32_part 0 = .ok (.iload_n 1, 1) := dk_27 (dk_at dksX32_part_0 0 rfl rfl)
theorem dX32_part_1 : decode cX32_part 1 = .ok (.ifCond .ne 10, 3) := dk_154 0 10 (dk_at dksX32_part_0 1 rfl rfl)
theorem dX32_part_4 : decode cX32_part 4 = .ok (.aload_n 0, 1) := dk_42 (dk_at dksX32_part_0 4 rfl rfl)
theorem dX32_part_5 : decode cX32_part 5 = .ok (.getfield 15, 3) := dk_180 0 15 (dk_at dksX32_part_0 5 rfl rfl)
theorem dX32_part_8 : decode cX32_part 8 = .ok (.goto 18, 3) := dk_167 0 18 (dk_at dksX32_part_0 8 rfl rfl)
theorem dX32_part_11 : decode cX32_part 11 = .ok (.iload_n 1, 1) := dk_27 (dk_at dksX32_part_0 11 rfl rfl)
theorem dX32_part_12 : decode cX32_part 12 = .ok (.iconst 1, 1) := dk_4 (dk_at dksX32_part_0 12 rfl rfl)
theorem dX32_part_13 : decode cX32_part 13 = .ok (.if_icmp .ne 10, 3) := dk_160 0 10 (dk_at dksX32_part_0 13 rfl rfl)
theorem dX32_part_16 : decode cX32_part 16 = .ok (.aload_n 0, 1) := dk_42 (dk_at dksX32_part_0 16 rfl rfl)
theorem dX32_part_17 : decode cX32_part 17 = .ok (.getfield 9, 3) := dk_180 0 9 (dk_at dksX32_part_0 17 rfl rfl)
theorem dX32_part_20 : decode cX32_part 20 = .ok (.goto 6, 3) := dk_167 0 6 (dk_at dksX32_part_0 20 rfl rfl)
theorem dX32_part_23 : decode cX32_part 23 = .ok (.ldc2_w 24, 3) := dk_20 0 24 (dk_at dksX32_part_1 0 rfl rfl)
theorem dX32_part_26 : decode cX32_part 26 = .ok (.lreturn, 1) := dk_173 (dk_at dksX32_part_1 3 rfl rfl)
theorem q431 : (Jvm.Cond.initialized "WasteHouse$PurityOdds$Ratio") ∈ lw_all := lw_g (lw_at lw_m1 39 rfl) rfl
theorem q1644 : (Jvm.Cond.instantiable "WasteHouse$PurityOdds$Ratio" (2 : Nat)) ∈ lw_all := lw_g (lw_at lw_m6 52 rfl) rfl
theorem q1646 : (Jvm.Cond.instanceMethod ({ cls := "WasteHouse$PurityOdds$Ratio", name := "<init>", desc := "()V" } : Jvm.MethodName)) ∈ lw_all := lw_g (lw_at lw_m6 54 rfl) rfl
theorem q1647 : (Jvm.Cond.code ({ cls := "WasteHouse$PurityOdds$Ratio", name := "<init>", desc := "()V" } : Jvm.MethodName) prog_34_method_1_code (1 : Nat) (Option.none : Option Jvm.ClassFile.FieldType)) ∈ lw_all := lw_g (lw_at lw_m6 55 rfl) rfl
theorem q1648 : (Jvm.Cond.methodLink "WasteHouse$PurityOdds$Ratio" (3 : Nat) ({ cls := "java/lang/Object", name := "<init>", desc := "()V" } : Jvm.MethodName)) ∈ lw_all := lw_g (lw_at lw_m6 56 rfl) rfl
theorem q1649 : (Jvm.Cond.fieldLink "WasteHouse$PurityOdds$Ratio" (15 : Nat) "WasteHouse$PurityOdds$Ratio" "above" "J") ∈ lw_all := lw_g (lw_at lw_m6 57 rfl) rfl
theorem q1651 : (Jvm.Cond.fieldLink "WasteHouse$PurityOdds$Ratio" (9 : Nat) "WasteHouse$PurityOdds$Ratio" "below" "J") ∈ lw_all := lw_g (lw_at lw_m6 59 rfl) rfl
theorem q1653 : (Jvm.Cond.lays "WasteHouse$PurityOdds$Ratio" "WasteHouse$PurityOdds$Ratio" "above" "J") ∈ lw_all := lw_g (lw_at lw_m6 61 rfl) rfl
theorem q1654 : (Jvm.Cond.soleField "WasteHouse$PurityOdds$Ratio" "above") ∈ lw_all := lw_g (lw_at lw_m6 62 rfl) rfl
theorem q1655 : (Jvm.Cond.lays "WasteHouse$PurityOdds$Ratio" "WasteHouse$PurityOdds$Ratio" "below" "J") ∈ lw_all := lw_g (lw_at lw_m6 63 rfl) rfl
theorem q1656 : (Jvm.Cond.soleField "WasteHouse$PurityOdds$Ratio" "below") ∈ lw_all := lw_g (lw_at lw_m6 64 rfl) rfl
theorem q1657 : (Jvm.Cond.superclass "WasteHouse$PurityOdds$Ratio" "java/lang/Object") ∈ lw_all := lw_g (lw_at lw_m6 65 rfl) rfl
theorem q2004 : (Jvm.Cond.selects "WasteHouse$PurityOdds$Ratio" ({ cls := "java/lang/Object", name := "getClass", desc := "()Ljava/lang/Class;" } : Jvm.MethodName) ({ cls := "java/lang/Object", name := "getClass", desc := "()Ljava/lang/Class;" } : Jvm.MethodName)) ∈ lw_all := lw_g (lw_at lw_m7 172 rfl) rfl
theorem q3114 : (Jvm.Cond.selects "WasteHouse$PurityOdds$Ratio" ({ cls := "java/lang/Object", name := "equals", desc := "(Ljava/lang/Object;)Z" } : Jvm.MethodName) ({ cls := "java/lang/Object", name := "equals", desc := "(Ljava/lang/Object;)Z" } : Jvm.MethodName)) ∈ lw_all := lw_g (lw_at lw_m12 82 rfl) rfl
theorem q3632 : (Jvm.Cond.selects "WasteHouse$PurityOdds$Ratio" ({ cls := "java/lang/Object", name := "hashCode", desc := "()I" } : Jvm.MethodName) ({ cls := "java/lang/Object", name := "hashCode", desc := "()I" } : Jvm.MethodName)) ∈ lw_all := lw_g (lw_at lw_m14 120 rfl) rfl
theorem q5441 : (Jvm.Cond.instanceMethod ({ cls := "WasteHouse$PurityOdds$Ratio", name := "set", desc := "(JJ)V" } : Jvm.MethodName)) ∈ lw_all := lw_g (lw_at lw_m22 9 rfl) rfl
theorem q5442 : (Jvm.Cond.selects "WasteHouse$PurityOdds$Ratio" ({ cls := "WasteHouse$PurityOdds$Ratio", name := "set", desc := "(JJ)V" } : Jvm.MethodName) ({ cls := "WasteHouse$PurityOdds$Ratio", name := "set", desc := "(JJ)V" } : Jvm.MethodName)) ∈ lw_all := lw_g (lw_at lw_m22 10 rfl) rfl
theorem q5443 : (Jvm.Cond.code ({ cls := "WasteHouse$PurityOdds$Ratio", name := "set", desc := "(JJ)V" } : Jvm.MethodName) prog_34_method_2_code (11 : Nat) (Option.none : Option Jvm.ClassFile.FieldType)) ∈ lw_all := lw_g (lw_at lw_m22 11 rfl) rfl
theorem q5449 : (Jvm.Cond.instanceMethod ({ cls := "WasteHouse$PurityOdds$Ratio", name := "compare", desc := "(LWasteHouse$PurityOdds$Ratio;)I" } : Jvm.MethodName)) ∈ lw_all := lw_g (lw_at lw_m22 17 rfl) rfl
theorem q5450 : (Jvm.Cond.selects "WasteHouse$PurityOdds$Ratio" ({ cls := "WasteHouse$PurityOdds$Ratio", name := "compare", desc := "(LWasteHouse$PurityOdds$Ratio;)I" } : Jvm.MethodName) ({ cls := "WasteHouse$PurityOdds$Ratio", name := "compare", desc := "(LWasteHouse$PurityOdds$Ratio;)I" } : Jvm.MethodName)) ∈ lw_all := lw_g (lw_at lw_m22 18 rfl) rfl
theorem q5451 : (Jvm.Cond.code ({ cls := "WasteHouse$PurityOdds$Ratio", name := "compare", desc := "(LWasteHouse$PurityOdds$Ratio;)I" } : Jvm.MethodName) prog_34_method_3_code (2 : Nat) (Option.some Jvm.ClassFile.FieldType.int)) ∈ lw_all := lw_g (lw_at lw_m22 19 rfl) rfl
theorem q5452 : (Jvm.Cond.methodLink "WasteHouse$PurityOdds$Ratio" (18 : Nat) ({ cls := "java/lang/Long", name := "signum", desc := "(J)I" } : Jvm.MethodName)) ∈ lw_all := lw_g (lw_at lw_m22 20 rfl) rfl
theorem q5486 : (Jvm.Cond.instanceMethod ({ cls := "WasteHouse$PurityOdds$Ratio", name := "part", desc := "(I)J" } : Jvm.MethodName)) ∈ lw_all := lw_g (lw_at lw_m22 54 rfl) rfl
theorem q5487 : (Jvm.Cond.selects "WasteHouse$PurityOdds$Ratio" ({ cls := "WasteHouse$PurityOdds$Ratio", name := "part", desc := "(I)J" } : Jvm.MethodName) ({ cls := "WasteHouse$PurityOdds$Ratio", name := "part", desc := "(I)J" } : Jvm.MethodName)) ∈ lw_all := lw_g (lw_at lw_m22 55 rfl) rfl
theorem q5488 : (Jvm.Cond.code ({ cls := "WasteHouse$PurityOdds$Ratio", name := "part", desc := "(I)J" } : Jvm.MethodName) prog_34_method_4_code (2 : Nat) (Option.some Jvm.ClassFile.FieldType.long)) ∈ lw_all := lw_g (lw_at lw_m22 56 rfl) rfl
theorem q5489 : (Jvm.Cond.constantLong "WasteHouse$PurityOdds$Ratio" (24 : Nat) (-1 : Int64)) ∈ lw_all := lw_g (lw_at lw_m22 57 rfl) rfl
theorem q9627 : (Jvm.Cond.castable "WasteHouse$PurityOdds$Ratio" "java/lang/Object") ∈ lw_tbl := lw_at lw_m39 115 rfl
theorem in_X32 : ∀ w ∈ wsX320, w ∈ lw_all := lw_in wsX320 [1653, 1655] (by decide +kernel) (by decide +kernel)
