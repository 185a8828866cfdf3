/-! WasteHouse$DepositCodes$Twice -/
set_option maxRecDepth 100000
def RX62 : String := "WasteHouse$DepositCodes$Twice"
def TX62 : u_T := fun k => match k with
  | 0 => ("WasteHouse$DepositCodes$Twice", "serial", "J", true)
  | 1 => ("WasteHouse$DepositCodes$Twice", "first", "I", true)
  | _ => ("WasteHouse$DepositCodes$Twice", "second", "I", true)
def tyX62 : Nat → FieldType := fun k => match k with
  | 0 => .long
  | 1 => .int
  | _ => .int
abbrev wsX620 : List Cond := u_ws RX62 TX62 3
theorem nmX62 : ∀ a, a < 3 → ∀ b, b < 3 → a ≠ b → (TX62 a).2.1 ≠ (TX62 b).2.1 := by decide +kernel
theorem tyX62_ok : ∀ k, k < 3 → parseFieldDescriptor (TX62 k).2.2.1 = some (tyX62 k) := by decide +kernel
abbrev cX62_init : ByteArray := prog_15_method_1_code
def yX62_init : MethodName := ⟨RX62, "<init>", "(JII)V"⟩
def dkwX62_init_0 : List UInt8 := [42, 183, 0, 3, 42, 31, 181, 0, 9, 42, 29, 181, 0, 15, 42, 21, 4, 181, 0, 19, 177]
abbrev dktX62_init_0 : List UInt8 := dkwX62_init_0 ++ []
theorem dksX62_init_0 : cX62_init.data.toList.drop 0 = dktX62_init_0 := by decide +kernel
theorem dX62_init_0 : decode cX62_init 0 = .ok (.aload_n 0, 1) := dk_42 (dk_at dksX62_init_0 0 rfl rfl)
theorem dX62_init_1 : decode cX62_init 1 = .ok (.invokespecial 3, 3) := dk_183 0 3 (dk_at dksX62_init_0 1 rfl rfl)
theorem dX62_init_4 : decode cX62_init 4 = .ok (.aload_n 0, 1) := dk_42 (dk_at dksX62_init_0 4 rfl rfl)
theorem dX62_init_5 : decode cX62_init 5 = .ok (.lload_n 1, 1) := dk_31 (dk_at dksX62_init_0 5 rfl rfl)
theorem dX62_init_6 : decode cX62_init 6 = .ok (.putfield 9, 3) := dk_181 0 9 (dk_at dksX62_init_0 6 rfl rfl)
theorem dX62_init_9 : decode cX62_init 9 = .ok (.aload_n 0, 1) := dk_42 (dk_at dksX62_init_0 9 rfl rfl)
theorem dX62_init_10 : decode cX62_init 10 = .ok (.iload_n 3, 1) := dk_29 (dk_at dksX62_init_0 10 rfl rfl)
theorem dX62_init_11 : decode cX62_init 11 = .ok (.putfield 15, 3) := dk_181 0 15 (dk_at dksX62_init_0 11 rfl rfl)
theorem dX62_init_14 : decode cX62_init 14 = .ok (.aload_n 0, 1) := dk_42 (dk_at dksX62_init_0 14 rfl rfl)
theorem dX62_init_15 : decode cX62_init 15 = .ok (.iload 4, 2) := dk_21 4 (dk_at dksX62_init_0 15 rfl rfl)
theorem dX62_init_17 : decode cX62_init 17 = .ok (.putfield 19, 3) := dk_181 0 19 (dk_at dksX62_init_0 17 rfl rfl)
theorem dX62_init_20 : decode cX62_init 20 = .ok (.return_, 1) := dk_177 (dk_at dksX62_init_0 20 rfl rfl)
abbrev cX62_of : ByteArray := prog_15_method_5_code
def yX62_of : MethodName := ⟨RX62, "of", "(I)I"⟩
def dkwX62_of_2 : List UInt8 := [42, 180, 0, 15, 172, 42, 180, 0, 19, 172, 42, 182, 0, 22, 172, 42, 27, 6, 100, 182, 0, 26, 172]
abbrev dktX62_of_2 : List UInt8 := dkwX62_of_2 ++ []
def dkwX62_of_1 : List UInt8 := [170, 0, 0, 0, 0, 0, 42, 0, 0, 0, 0, 0, 0, 0, 2, 0, 0, 0, 27, 0, 0, 0, 32, 0, 0, 0, 37]
abbrev dktX62_of_1 : List UInt8 := dkwX62_of_1 ++ dktX62_of_2
def dkwX62_of_0 : List UInt8 := [27]
abbrev dktX62_of_0 : List UInt8 := dkwX62_of_0 ++ dktX62_of_1
theorem dksX62_of_0 : cX62_of.data.toList.drop 0 = dktX62_of_0 := by decide +kernel
theorem dksX62_of_1 : cX62_of.data.toList.drop 1 = dktX62_of_1 := dk_seg dksX62_of_0 1 rfl rfl
theorem dksX62_of_2 : cX62_of.data.toList.drop 28 = dktX62_of_2 := dk_seg dksX62_of_1 27 rfl rfl
theorem dX62_of_0 : decode cX62_of 0 = .ok (.iload_n 1, 1) := dk_27 (dk_at dksX62_of_0 0 rfl rfl)
theorem dX62_of_1 : decode cX62_of 1 = .ok (.tableswitch 42 0 2 #[27, 32, 37], 27) := by decide +kernel
theorem dX62_of_28 : decode cX62_of 28 = .ok (.aload_n 0, 1) := dk_42 (dk_at dksX62_of_2 0 rfl rfl)
theorem dX62_of_29 : decode cX62_of 29 = .ok (.getfield 15, 3) := dk_180 0 15 (dk_at dksX62_of_2 1 rfl rfl)
theorem dX62_of_32 : decode cX62_of 32 = .ok (.ireturn, 1) := dk_172 (dk_at dksX62_of_2 4 rfl rfl)
theorem dX62_of_33 : decode cX62_of 33 = .ok (.aload_n 0, 1) := dk_42 (dk_at dksX62_of_2 5 rfl rfl)
theorem dX62_of_34 : decode cX62_of 34 = .ok (.getfield 19, 3) := dk_180 0 19 (dk_at dksX62_of_2 6 rfl rfl)
theorem dX62_of_37 : decode cX62_of 37 = .ok (.ireturn, 1) := dk_172 (dk_at dksX62_of_2 9 rfl rfl)
theorem dX62_of_38 : decode cX62_of 38 = .ok (.aload_n 0, 1) := dk_42 (dk_at dksX62_of_2 10 rfl rfl)
theorem dX62_of_39 : decode cX62_of 39 = .ok (.invokevirtual 22, 3) := dk_182 0 22 (dk_at dksX62_of_2 11 rfl rfl)
theorem dX62_of_42 : decode cX62_of 42 = .ok (.ireturn, 1) := dk_172 (dk_at dksX62_of_2 14 rfl rfl)
theorem dX62_of_43 : decode cX62_of 43 = .ok (.aload_n 0, 1) := dk_42 (dk_at dksX62_of_2 15 rfl rfl)
theorem dX62_of_44 : decode cX62_of 44 = .ok (.iload_n 1, 1) := dk_27 (dk_at dksX62_of_2 16 rfl rfl)
theorem dX62_of_45 : decode cX62_of 45 = .ok (.iconst 3, 1) := dk_6 (dk_at dksX62_of_2 17 rfl rfl)
theorem dX62_of_46 : decode cX62_of 46 = .ok (.isub, 1) := dk_100 (dk_at dksX62_of_2 18 rfl rfl)
theorem dX62_of_47 : decode cX62_of 47 = .ok (.invokevirtual 26, 3) := dk_182 0 26 (dk_at dksX62_of_2 19 rfl rfl)
theorem dX62_of_50 : decode cX62_of 50 = .ok (.ireturn, 1) := dk_172 (dk_at dksX62_of_2 22 rfl rfl)
abbrev cX62_size : ByteArray := prog_15_method_6_code
def yX62_size : MethodName := ⟨RX62, "size", "()I"⟩
def dkwX62_size_1 : List UInt8 := [109, 65, 167, 255, 241, 27, 172]
abbrev dktX62_size_1 : List UInt8 := dkwX62_size_1 ++ []
def dkwX62_size_0 : List UInt8 := [4, 60, 42, 180, 0, 9, 20, 0, 30, 109, 65, 32, 9, 148, 158, 0, 15, 132, 1, 1, 32, 20, 0, 30]
abbrev dktX62_size_0 : List UInt8 := dkwX62_size_0 ++ dktX62_size_1
theorem dksX62_size_0 : cX62_size.data.toList.drop 0 = dktX62_size_0 := by decide +kernel
theorem dksX62_size_1 : cX62_size.data.toList.drop 24 = dktX62_size_1 := dk_seg dksX62_size_0 24 rfl rfl
theorem dX62_size_0 : decode cX62_size 0 = .ok (.iconst 1, 1) := dk_4 (dk_at dksX62_size_0 0 rfl rfl)
theorem dX62_size_1 : decode cX62_size 1 = .ok (.istore_n 1, 1) := dk_60 (dk_at dksX62_size_0 1 rfl rfl)
theorem dX62_size_2 : decode cX62_size 2 = .ok (.aload_n 0, 1) := dk_42 (dk_at dksX62_size_0 2 rfl rfl)
theorem dX62_size_3 : decode cX62_size 3 = .ok (.getfield 9, 3) := dk_180 0 9 (dk_at dksX62_size_0 3 rfl rfl)
theorem dX62_size_6 : decode cX62_size 6 = .ok (.ldc2_w 30, 3) := dk_20 0 30 (dk_at dksX62_size_0 6 rfl rfl)
theorem dX62_size_9 : decode cX62_size 9 = .ok (.ldiv, 1) := dk_109 (dk_at dksX62_size_0 9 rfl rfl)
theorem dX62_size_10 : decode cX62_size 10 = .ok (.lstore_n 2, 1) := dk_65 (dk_at dksX62_size_0 10 rfl rfl)
theorem dX62_size_11 : decode cX62_size 11 = .ok (.lload_n 2, 1) := dk_32 (dk_at dksX62_size_0 11 rfl rfl)
theorem dX62_size_12 : decode cX62_size 12 = .ok (.lconst 0, 1) := dk_9 (dk_at dksX62_size_0 12 rfl rfl)
theorem dX62_size_13 : decode cX62_size 13 = .ok (.lcmp, 1) := dk_148 (dk_at dksX62_size_0 13 rfl rfl)
theorem dX62_size_14 : decode cX62_size 14 = .ok (.ifCond .le 15, 3) := dk_158 0 15 (dk_at dksX62_size_0 14 rfl rfl)
theorem dX62_size_17 : decode cX62_size 17 = .ok (.iinc 1 1, 3) := dk_132 1 1 (dk_at dksX62_size_0 17 rfl rfl)
theorem dX62_size_20 : decode cX62_size 20 = .ok (.lload_n 2, 1) := dk_32 (dk_at dksX62_size_0 20 rfl rfl)
theorem dX62_size_21 : decode cX62_size 21 = .ok (.ldc2_w 30, 3) := dk_20 0 30 (dk_at dksX62_size_0 21 rfl rfl)
theorem dX62_size_24 : decode cX62_size 24 = .ok (.ldiv, 1) := dk_109 (dk_at dksX62_size_1 0 rfl rfl)
theorem dX62_size_25 : decode cX62_size 25 = .ok (.lstore_n 2, 1) := dk_65 (dk_at dksX62_size_1 1 rfl rfl)
theorem dX62_size_26 : decode cX62_size 26 = .ok (.goto (-15), 3) := dk_167 255 241 (dk_at dksX62_size_1 2 rfl rfl)
theorem dX62_size_29 : decode cX62_size 29 = .ok (.iload_n 1, 1) := dk_27 (dk_at dksX62_size_1 5 rfl rfl)
theorem dX62_size_30 : decode cX62_size 30 = .ok (.ireturn, 1) := dk_172 (dk_at dksX62_size_1 6 rfl rfl)
abbrev cX62_decimal : ByteArray := prog_15_method_7_code
def yX62_decimal : MethodName := ⟨RX62, "decimal", "(I)I"⟩
def dkwX62_decimal_2 : List UInt8 := [172]
abbrev dktX62_decimal_2 : List UInt8 := dkwX62_decimal_2 ++ []
def dkwX62_decimal_1 : List UInt8 := [21, 5, 28, 162, 0, 15, 33, 20, 0, 30, 109, 66, 132, 5, 1, 167, 255, 241, 33, 20, 0, 30, 113, 136]
abbrev dktX62_decimal_1 : List UInt8 := dkwX62_decimal_1 ++ dktX62_decimal_2
def dkwX62_decimal_0 : List UInt8 := [42, 182, 0, 22, 4, 100, 27, 100, 61, 28, 156, 0, 5, 2, 172, 42, 180, 0, 9, 66, 3, 54, 5]
abbrev dktX62_decimal_0 : List UInt8 := dkwX62_decimal_0 ++ dktX62_decimal_1
theorem dksX62_decimal_0 : cX62_decimal.data.toList.drop 0 = dktX62_decimal_0 := by decide +kernel
theorem dksX62_decimal_1 : cX62_decimal.data.toList.drop 23 = dktX62_decimal_1 := dk_seg dksX62_decimal_0 23 rfl rfl
theorem dksX62_decimal_2 : cX62_decimal.data.toList.drop 47 = dktX62_decimal_2 := dk_seg dksX62_decimal_1 24 rfl rfl
theorem dX62_decimal_0 : decode cX62_decimal 0 = .ok (.aload_n 0, 1) := dk_42 (dk_at dksX62_decimal_0 0 rfl rfl)
theorem dX62_decimal_1 : decode cX62_decimal 1 = .ok (.invokevirtual 22, 3) := dk_182 0 22 (dk_at dksX62_decimal_0 1 rfl rfl)
theorem dX62_decimal_4 : decode cX62_decimal 4 = .ok (.iconst 1, 1) := dk_4 (dk_at dksX62_decimal_0 4 rfl rfl)
theorem dX62_decimal_5 : decode cX62_decimal 5 = .ok (.isub, 1) := dk_100 (dk_at dksX62_decimal_0 5 rfl rfl)
theorem dX62_decimal_6 : decode cX62_decimal 6 = .ok (.iload_n 1, 1) := dk_27 (dk_at dksX62_decimal_0 6 rfl rfl)
theorem dX62_decimal_7 : decode cX62_decimal 7 = .ok (.isub, 1) := dk_100 (dk_at dksX62_decimal_0 7 rfl rfl)
theorem dX62_decimal_8 : decode cX62_decimal 8 = .ok (.istore_n 2, 1) := dk_61 (dk_at dksX62_decimal_0 8 rfl rfl)
theorem dX62_decimal_9 : decode cX62_decimal 9 = .ok (.iload_n 2, 1) := dk_28 (dk_at dksX62_decimal_0 9 rfl rfl)
theorem dX62_decimal_10 : decode cX62_decimal 10 = .ok (.ifCond .ge 5, 3) := dk_156 0 5 (dk_at dksX62_decimal_0 10 rfl rfl)
theorem dX62_decimal_13 : decode cX62_decimal 13 = .ok (.iconst (-1), 1) := dk_2 (dk_at dksX62_decimal_0 13 rfl rfl)
theorem dX62_decimal_14 : decode cX62_decimal 14 = .ok (.ireturn, 1) := dk_172 (dk_at dksX62_decimal_0 14 rfl rfl)
theorem dX62_decimal_15 : decode cX62_decimal 15 = .ok (.aload_n 0, 1) := dk_42 (dk_at dksX62_decimal_0 15 rfl rfl)
theorem dX62_decimal_16 : decode cX62_decimal 16 = .ok (.getfield 9, 3) := dk_180 0 9 (dk_at dksX62_decimal_0 16 rfl rfl)
theorem dX62_decimal_19 : decode cX62_decimal 19 = .ok (.lstore_n 3, 1) := dk_66 (dk_at dksX62_decimal_0 19 rfl rfl)
theorem dX62_decimal_20 : decode cX62_decimal 20 = .ok (.iconst 0, 1) := dk_3 (dk_at dksX62_decimal_0 20 rfl rfl)
theorem dX62_decimal_21 : decode cX62_decimal 21 = .ok (.istore 5, 2) := dk_54 5 (dk_at dksX62_decimal_0 21 rfl rfl)
theorem dX62_decimal_23 : decode cX62_decimal 23 = .ok (.iload 5, 2) := dk_21 5 (dk_at dksX62_decimal_1 0 rfl rfl)
theorem dX62_decimal_25 : decode cX62_decimal 25 = .ok (.iload_n 2, 1) := dk_28 (dk_at dksX62_decimal_1 2 rfl rfl)
theorem dX62_decimal_26 : decode cX62_decimal 26 = .ok (.if_icmp .ge 15, 3) := dk_162 0 15 (dk_at dksX62_decimal_1 3 rfl rfl)
theorem dX62_decimal_29 : decode cX62_decimal 29 = .ok (.lload_n 3, 1) := dk_33 (dk_at dksX62_decimal_1 6 rfl rfl)
theorem dX62_decimal_30 : decode cX62_decimal 30 = .ok (.ldc2_w 30, 3) := dk_20 0 30 (dk_at dksX62_decimal_1 7 rfl rfl)
theorem dX62_decimal_33 : decode cX62_decimal 33 = .ok (.ldiv, 1) := dk_109 (dk_at dksX62_decimal_1 10 rfl rfl)
theorem dX62_decimal_34 : decode cX62_decimal 34 = .ok (.lstore_n 3, 1) := dk_66 (dk_at dksX62_decimal_1 11 rfl rfl)
theorem dX62_decimal_35 : decode cX62_decimal 35 = .ok (.iinc 5 1, 3) := dk_132 5 1 (dk_at dksX62_decimal_1 12 rfl rfl)
theorem dX62_decimal_38 : decode cX62_decimal 38 = .ok (.goto (-15), 3) := dk_167 255 241 (dk_at dksX62_decimal_1 15 rfl rfl)
theorem dX62_decimal_41 : decode cX62_decimal 41 = .ok (.lload_n 3, 1) := dk_33 (dk_at dksX62_decimal_1 18 rfl rfl)
theorem dX62_decimal_42 : decode cX62_decimal 42 = .ok (.ldc2_w 30, 3) := dk_20 0 30 (dk_at dksX62_decimal_1 19 rfl rfl)
theorem dX62_decimal_45 : decode cX62_decimal 45 = .ok (.lrem, 1) := dk_113 (dk_at dksX62_decimal_1 22 rfl rfl)
theorem dX62_decimal_46 : decode cX62_decimal 46 = .ok (.l2i, 1) := dk_136 (dk_at dksX62_decimal_1 23 rfl rfl)
theorem dX62_decimal_47 : decode cX62_decimal 47 = .ok (.ireturn, 1) := dk_172 (dk_at dksX62_decimal_2 0 rfl rfl)
theorem q500 : (Jvm.Cond.initialized "WasteHouse$DepositCodes$Twice") ∈ lw_all := lw_g (lw_at lw_m1 108 rfl) rfl
theorem q1985 : (Jvm.Cond.selects "WasteHouse$DepositCodes$Twice" ({ cls := "java/lang/Object", name := "getClass", desc := "()Ljava/lang/Class;" } : Jvm.MethodName) ({ cls := "java/lang/Object", name := "getClass", desc := "()Ljava/lang/Class;" } : Jvm.MethodName)) ∈ lw_all := lw_g (lw_at lw_m7 153 rfl) rfl
theorem q3093 : (Jvm.Cond.selects "WasteHouse$DepositCodes$Twice" ({ cls := "java/lang/Object", name := "equals", desc := "(Ljava/lang/Object;)Z" } : Jvm.MethodName) ({ cls := "java/lang/Object", name := "equals", desc := "(Ljava/lang/Object;)Z" } : Jvm.MethodName)) ∈ lw_all := lw_g (lw_at lw_m12 61 rfl) rfl
theorem q3608 : (Jvm.Cond.selects "WasteHouse$DepositCodes$Twice" ({ cls := "java/lang/Object", name := "hashCode", desc := "()I" } : Jvm.MethodName) ({ cls := "java/lang/Object", name := "hashCode", desc := "()I" } : Jvm.MethodName)) ∈ lw_all := lw_g (lw_at lw_m14 96 rfl) rfl
theorem q4509 : (Jvm.Cond.instantiable "WasteHouse$DepositCodes$Twice" (3 : Nat)) ∈ lw_all := lw_g (lw_at lw_m18 37 rfl) rfl
theorem q4534 : (Jvm.Cond.instanceMethod ({ cls := "WasteHouse$DepositCodes$Twice", name := "<init>", desc := "(JII)V" } : Jvm.MethodName)) ∈ lw_all := lw_g (lw_at lw_m18 62 rfl) rfl
theorem q4535 : (Jvm.Cond.code ({ cls := "WasteHouse$DepositCodes$Twice", name := "<init>", desc := "(JII)V" } : Jvm.MethodName) prog_15_method_1_code (5 : Nat) (Option.none : Option Jvm.ClassFile.FieldType)) ∈ lw_all := lw_g (lw_at lw_m18 63 rfl) rfl
theorem q4536 : (Jvm.Cond.methodLink "WasteHouse$DepositCodes$Twice" (3 : Nat) ({ cls := "java/lang/Object", name := "<init>", desc := "()V" } : Jvm.MethodName)) ∈ lw_all := lw_g (lw_at lw_m18 64 rfl) rfl
theorem q4537 : (Jvm.Cond.fieldLink "WasteHouse$DepositCodes$Twice" (9 : Nat) "WasteHouse$DepositCodes$Twice" "serial" "J") ∈ lw_all := lw_g (lw_at lw_m18 65 rfl) rfl
theorem q4538 : (Jvm.Cond.fieldLink "WasteHouse$DepositCodes$Twice" (15 : Nat) "WasteHouse$DepositCodes$Twice" "first" "I") ∈ lw_all := lw_g (lw_at lw_m18 66 rfl) rfl
theorem q4539 : (Jvm.Cond.fieldLink "WasteHouse$DepositCodes$Twice" (19 : Nat) "WasteHouse$DepositCodes$Twice" "second" "I") ∈ lw_all := lw_g (lw_at lw_m18 67 rfl) rfl
theorem q4540 : (Jvm.Cond.laysFinal "WasteHouse$DepositCodes$Twice" "WasteHouse$DepositCodes$Twice" "serial" "J") ∈ lw_all := lw_g (lw_at lw_m18 68 rfl) rfl
theorem q4541 : (Jvm.Cond.soleField "WasteHouse$DepositCodes$Twice" "serial") ∈ lw_all := lw_g (lw_at lw_m18 69 rfl) rfl
theorem q4542 : (Jvm.Cond.laysFinal "WasteHouse$DepositCodes$Twice" "WasteHouse$DepositCodes$Twice" "first" "I") ∈ lw_all := lw_g (lw_at lw_m18 70 rfl) rfl
theorem q4543 : (Jvm.Cond.soleField "WasteHouse$DepositCodes$Twice" "first") ∈ lw_all := lw_g (lw_at lw_m18 71 rfl) rfl
theorem q4544 : (Jvm.Cond.laysFinal "WasteHouse$DepositCodes$Twice" "WasteHouse$DepositCodes$Twice" "second" "I") ∈ lw_all := lw_g (lw_at lw_m18 72 rfl) rfl
theorem q4545 : (Jvm.Cond.soleField "WasteHouse$DepositCodes$Twice" "second") ∈ lw_all := lw_g (lw_at lw_m18 73 rfl) rfl
theorem q4546 : (Jvm.Cond.superclass "WasteHouse$DepositCodes$Twice" "java/lang/Object") ∈ lw_all := lw_g (lw_at lw_m18 74 rfl) rfl
theorem q4724 : (Jvm.Cond.instanceMethod ({ cls := "WasteHouse$DepositCodes$Twice", name := "of", desc := "(I)I" } : Jvm.MethodName)) ∈ lw_all := lw_g (lw_at lw_m19 12 rfl) rfl
theorem q4725 : (Jvm.Cond.selects "WasteHouse$DepositCodes$Twice" ({ cls := "WasteHouse$DepositCodes$Twice", name := "of", desc := "(I)I" } : Jvm.MethodName) ({ cls := "WasteHouse$DepositCodes$Twice", name := "of", desc := "(I)I" } : Jvm.MethodName)) ∈ lw_all := lw_g (lw_at lw_m19 13 rfl) rfl
theorem q4726 : (Jvm.Cond.code ({ cls := "WasteHouse$DepositCodes$Twice", name := "of", desc := "(I)I" } : Jvm.MethodName) prog_15_method_5_code (2 : Nat) (Option.some Jvm.ClassFile.FieldType.int)) ∈ lw_all := lw_g (lw_at lw_m19 14 rfl) rfl
theorem q4727 : (Jvm.Cond.methodLink "WasteHouse$DepositCodes$Twice" (22 : Nat) ({ cls := "WasteHouse$DepositCodes$Twice", name := "size", desc := "()I" } : Jvm.MethodName)) ∈ lw_all := lw_g (lw_at lw_m19 15 rfl) rfl
theorem q4728 : (Jvm.Cond.privateMethod ({ cls := "WasteHouse$DepositCodes$Twice", name := "size", desc := "()I" } : Jvm.MethodName)) ∈ lw_tbl := lw_at lw_m19 16 rfl
theorem q4729 : (Jvm.Cond.instanceMethod ({ cls := "WasteHouse$DepositCodes$Twice", name := "size", desc := "()I" } : Jvm.MethodName)) ∈ lw_all := lw_g (lw_at lw_m19 17 rfl) rfl
theorem q4730 : (Jvm.Cond.code ({ cls := "WasteHouse$DepositCodes$Twice", name := "size", desc := "()I" } : Jvm.MethodName) prog_15_method_6_code (4 : Nat) (Option.some Jvm.ClassFile.FieldType.int)) ∈ lw_all := lw_g (lw_at lw_m19 18 rfl) rfl
theorem q4731 : (Jvm.Cond.constantLong "WasteHouse$DepositCodes$Twice" (30 : Nat) (10 : Int64)) ∈ lw_all := lw_g (lw_at lw_m19 19 rfl) rfl
theorem q4732 : (Jvm.Cond.methodLink "WasteHouse$DepositCodes$Twice" (26 : Nat) ({ cls := "WasteHouse$DepositCodes$Twice", name := "decimal", desc := "(I)I" } : Jvm.MethodName)) ∈ lw_all := lw_g (lw_at lw_m19 20 rfl) rfl
theorem q4733 : (Jvm.Cond.privateMethod ({ cls := "WasteHouse$DepositCodes$Twice", name := "decimal", desc := "(I)I" } : Jvm.MethodName)) ∈ lw_tbl := lw_at lw_m19 21 rfl
theorem q4734 : (Jvm.Cond.instanceMethod ({ cls := "WasteHouse$DepositCodes$Twice", name := "decimal", desc := "(I)I" } : Jvm.MethodName)) ∈ lw_all := lw_g (lw_at lw_m19 22 rfl) rfl
theorem q4735 : (Jvm.Cond.code ({ cls := "WasteHouse$DepositCodes$Twice", name := "decimal", desc := "(I)I" } : Jvm.MethodName) prog_15_method_7_code (6 : Nat) (Option.some Jvm.ClassFile.FieldType.int)) ∈ lw_all := lw_g (lw_at lw_m19 23 rfl) rfl
theorem q9699 : (Jvm.Cond.castable "WasteHouse$DepositCodes$Twice" "java/lang/Object") ∈ lw_tbl := lw_at lw_m39 187 rfl
theorem in_X62 : ∀ w ∈ wsX620, w ∈ lw_all := lw_in wsX620 [4540, 4542, 4544] (by decide +kernel) (by decide +kernel)
