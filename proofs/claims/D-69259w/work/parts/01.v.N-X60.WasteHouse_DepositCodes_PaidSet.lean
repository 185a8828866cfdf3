/-! WasteHouse$DepositCodes$PaidSet -/
set_option maxRecDepth 100000
def RX60 : String := "WasteHouse$DepositCodes$PaidSet"
def TX60 : u_T := fun k => match k with
  | 0 => ("WasteHouse$DepositCodes$PaidSet", "serials", "Ljava/util/TreeMap;", true)
  | _ => ("WasteHouse$DepositCodes$PaidSet", "machines", "Ljava/util/HashSet;", true)
def tyX60 : Nat → FieldType := fun k => match k with
  | 0 => .object "java/util/TreeMap"
  | _ => .object "java/util/HashSet"
abbrev wsX600 : List Cond := u_ws RX60 TX60 2
theorem nmX60 : ∀ a, a < 2 → ∀ b, b < 2 → a ≠ b → (TX60 a).2.1 ≠ (TX60 b).2.1 := by decide +kernel
theorem tyX60_ok : ∀ k, k < 2 → parseFieldDescriptor (TX60 k).2.2.1 = some (tyX60 k) := by decide +kernel
abbrev cX60_init : ByteArray := prog_13_method_1_code
def yX60_init : MethodName := ⟨RX60, "<init>", "()V"⟩
def dkwX60_init_1 : List UInt8 := [181, 0, 19, 177]
abbrev dktX60_init_1 : List UInt8 := dkwX60_init_1 ++ []
def dkwX60_init_0 : List UInt8 := [42, 183, 0, 1, 42, 187, 0, 7, 89, 183, 0, 9, 181, 0, 10, 42, 187, 0, 16, 89, 183, 0, 18]
abbrev dktX60_init_0 : List UInt8 := dkwX60_init_0 ++ dktX60_init_1
theorem dksX60_init_0 : cX60_init.data.toList.drop 0 = dktX60_init_0 := by decide +kernel
theorem dksX60_init_1 : cX60_init.data.toList.drop 23 = dktX60_init_1 := dk_seg dksX60_init_0 23 rfl rfl
theorem dX60_init_0 : decode cX60_init 0 = .ok (.aload_n 0, 1) := dk_42 (dk_at dksX60_init_0 0 rfl rfl)
theorem dX60_init_1 : decode cX60_init 1 = .ok (.invokespecial 1, 3) := dk_183 0 1 (dk_at dksX60_init_0 1 rfl rfl)
theorem dX60_init_4 : decode cX60_init 4 = .ok (.aload_n 0, 1) := dk_42 (dk_at dksX60_init_0 4 rfl rfl)
theorem dX60_init_5 : decode cX60_init 5 = .ok (.new 7, 3) := dk_187 0 7 (dk_at dksX60_init_0 5 rfl rfl)
theorem dX60_init_8 : decode cX60_init 8 = .ok (.dup, 1) := dk_89 (dk_at dksX60_init_0 8 rfl rfl)
theorem dX60_init_9 : decode cX60_init 9 = .ok (.invokespecial 9, 3) := dk_183 0 9 (dk_at dksX60_init_0 9 rfl rfl)
theorem dX60_init_12 : decode cX60_init 12 = .ok (.putfield 10, 3) := dk_181 0 10 (dk_at dksX60_init_0 12 rfl rfl)
theorem dX60_init_15 : decode cX60_init 15 = .ok (.aload_n 0, 1) := dk_42 (dk_at dksX60_init_0 15 rfl rfl)
theorem dX60_init_16 : decode cX60_init 16 = .ok (.new 16, 3) := dk_187 0 16 (dk_at dksX60_init_0 16 rfl rfl)
theorem dX60_init_19 : decode cX60_init 19 = .ok (.dup, 1) := dk_89 (dk_at dksX60_init_0 19 rfl rfl)
theorem dX60_init_20 : decode cX60_init 20 = .ok (.invokespecial 18, 3) := dk_183 0 18 (dk_at dksX60_init_0 20 rfl rfl)
theorem dX60_init_23 : decode cX60_init 23 = .ok (.putfield 19, 3) := dk_181 0 19 (dk_at dksX60_init_1 0 rfl rfl)
theorem dX60_init_26 : decode cX60_init 26 = .ok (.return_, 1) := dk_177 (dk_at dksX60_init_1 3 rfl rfl)
theorem q483 : (Jvm.Cond.initialized "WasteHouse$DepositCodes$PaidSet") ∈ lw_all := lw_g (lw_at lw_m1 91 rfl) rfl
theorem q1983 : (Jvm.Cond.selects "WasteHouse$DepositCodes$PaidSet" ({ cls := "java/lang/Object", name := "getClass", desc := "()Ljava/lang/Class;" } : Jvm.MethodName) ({ cls := "java/lang/Object", name := "getClass", desc := "()Ljava/lang/Class;" } : Jvm.MethodName)) ∈ lw_all := lw_g (lw_at lw_m7 151 rfl) rfl
theorem q3091 : (Jvm.Cond.selects "WasteHouse$DepositCodes$PaidSet" ({ cls := "java/lang/Object", name := "equals", desc := "(Ljava/lang/Object;)Z" } : Jvm.MethodName) ({ cls := "java/lang/Object", name := "equals", desc := "(Ljava/lang/Object;)Z" } : Jvm.MethodName)) ∈ lw_all := lw_g (lw_at lw_m12 59 rfl) rfl
theorem q3540 : (Jvm.Cond.instantiable "WasteHouse$DepositCodes$PaidSet" (2 : Nat)) ∈ lw_all := lw_g (lw_at lw_m14 28 rfl) rfl
theorem q3542 : (Jvm.Cond.instanceMethod ({ cls := "WasteHouse$DepositCodes$PaidSet", name := "<init>", desc := "()V" } : Jvm.MethodName)) ∈ lw_all := lw_g (lw_at lw_m14 30 rfl) rfl
theorem q3543 : (Jvm.Cond.code ({ cls := "WasteHouse$DepositCodes$PaidSet", name := "<init>", desc := "()V" } : Jvm.MethodName) prog_13_method_1_code (1 : Nat) (Option.none : Option Jvm.ClassFile.FieldType)) ∈ lw_all := lw_g (lw_at lw_m14 31 rfl) rfl
theorem q3544 : (Jvm.Cond.methodLink "WasteHouse$DepositCodes$PaidSet" (1 : Nat) ({ cls := "java/lang/Object", name := "<init>", desc := "()V" } : Jvm.MethodName)) ∈ lw_all := lw_g (lw_at lw_m14 32 rfl) rfl
theorem q3545 : (Jvm.Cond.classLink "WasteHouse$DepositCodes$PaidSet" (7 : Nat) "java/util/TreeMap") ∈ lw_all := lw_g (lw_at lw_m14 33 rfl) rfl
theorem q3546 : (Jvm.Cond.methodLink "WasteHouse$DepositCodes$PaidSet" (9 : Nat) ({ cls := "java/util/TreeMap", name := "<init>", desc := "()V" } : Jvm.MethodName)) ∈ lw_all := lw_g (lw_at lw_m14 34 rfl) rfl
theorem q3547 : (Jvm.Cond.classLink "WasteHouse$DepositCodes$PaidSet" (16 : Nat) "java/util/HashSet") ∈ lw_all := lw_g (lw_at lw_m14 35 rfl) rfl
theorem q3548 : (Jvm.Cond.methodLink "WasteHouse$DepositCodes$PaidSet" (18 : Nat) ({ cls := "java/util/HashSet", name := "<init>", desc := "()V" } : Jvm.MethodName)) ∈ lw_all := lw_g (lw_at lw_m14 36 rfl) rfl
theorem q3549 : (Jvm.Cond.fieldLink "WasteHouse$DepositCodes$PaidSet" (10 : Nat) "WasteHouse$DepositCodes$PaidSet" "serials" "Ljava/util/TreeMap;") ∈ lw_all := lw_g (lw_at lw_m14 37 rfl) rfl
theorem q3551 : (Jvm.Cond.fieldLink "WasteHouse$DepositCodes$PaidSet" (19 : Nat) "WasteHouse$DepositCodes$PaidSet" "machines" "Ljava/util/HashSet;") ∈ lw_all := lw_g (lw_at lw_m14 39 rfl) rfl
theorem q3554 : (Jvm.Cond.laysFinal "WasteHouse$DepositCodes$PaidSet" "WasteHouse$DepositCodes$PaidSet" "serials" "Ljava/util/TreeMap;") ∈ lw_all := lw_g (lw_at lw_m14 42 rfl) rfl
theorem q3555 : (Jvm.Cond.soleField "WasteHouse$DepositCodes$PaidSet" "serials") ∈ lw_all := lw_g (lw_at lw_m14 43 rfl) rfl
theorem q3556 : (Jvm.Cond.laysFinal "WasteHouse$DepositCodes$PaidSet" "WasteHouse$DepositCodes$PaidSet" "machines" "Ljava/util/HashSet;") ∈ lw_all := lw_g (lw_at lw_m14 44 rfl) rfl
theorem q3557 : (Jvm.Cond.soleField "WasteHouse$DepositCodes$PaidSet" "machines") ∈ lw_all := lw_g (lw_at lw_m14 45 rfl) rfl
theorem q3558 : (Jvm.Cond.superclass "WasteHouse$DepositCodes$PaidSet" "java/lang/Object") ∈ lw_all := lw_g (lw_at lw_m14 46 rfl) rfl
theorem q3606 : (Jvm.Cond.selects "WasteHouse$DepositCodes$PaidSet" ({ cls := "java/lang/Object", name := "hashCode", desc := "()I" } : Jvm.MethodName) ({ cls := "java/lang/Object", name := "hashCode", desc := "()I" } : Jvm.MethodName)) ∈ lw_all := lw_g (lw_at lw_m14 94 rfl) rfl
theorem q9688 : (Jvm.Cond.castable "WasteHouse$DepositCodes$PaidSet" "java/lang/Object") ∈ lw_tbl := lw_at lw_m39 176 rfl
theorem in_X60 : ∀ w ∈ wsX600, w ∈ lw_all := lw_in wsX600 [3554, 3556] (by decide +kernel) (by decide +kernel)
