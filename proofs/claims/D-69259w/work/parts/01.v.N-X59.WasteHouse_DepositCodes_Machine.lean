/-! WasteHouse$DepositCodes$Machine -/
set_option maxRecDepth 100000
def RX59 : String := "WasteHouse$DepositCodes$Machine"
def TX59 : u_T := fun k => match k with
  | 0 => ("WasteHouse$DepositCodes$Machine", "number", "I", true)
  | 1 => ("WasteHouse$DepositCodes$Machine", "set", "LWasteHouse$DepositCodes$PaidSet;", false)
  | 2 => ("WasteHouse$DepositCodes$Machine", "isFull", "Z", false)
  | 3 => ("WasteHouse$DepositCodes$Machine", "hasPower", "Z", false)
  | 4 => ("WasteHouse$DepositCodes$Machine", "counts", "[I", true)
  | _ => ("WasteHouse$DepositCodes$Machine", "open", "I", false)
def tyX59 : Nat → FieldType := fun k => match k with
  | 0 => .int
  | 1 => .object "WasteHouse$DepositCodes$PaidSet"
  | 2 => .boolean
  | 3 => .boolean
  | 4 => .array .int
  | _ => .int
abbrev wsX590 : List Cond := u_ws RX59 TX59 6
theorem nmX59 : ∀ a, a < 6 → ∀ b, b < 6 → a ≠ b → (TX59 a).2.1 ≠ (TX59 b).2.1 := by decide +kernel
theorem tyX59_ok : ∀ k, k < 6 → parseFieldDescriptor (TX59 k).2.2.1 = some (tyX59 k) := by decide +kernel
abbrev cX59_init : ByteArray := prog_11_method_1_code
def yX59_init : MethodName := ⟨RX59, "<init>", "(I)V"⟩
def dkwX59_init_2 : List UInt8 := [87, 177]
abbrev dktX59_init_2 : List UInt8 := dkwX59_init_2 ++ []
def dkwX59_init_1 : List UInt8 := [188, 10, 181, 0, 22, 42, 27, 181, 0, 26, 42, 180, 0, 12, 180, 0, 30, 27, 184, 0, 34, 182, 0, 40]
abbrev dktX59_init_1 : List UInt8 := dkwX59_init_1 ++ dktX59_init_2
def dkwX59_init_0 : List UInt8 := [42, 183, 0, 3, 42, 187, 0, 9, 89, 183, 0, 11, 181, 0, 12, 42, 4, 181, 0, 18, 42, 16, 8]
abbrev dktX59_init_0 : List UInt8 := dkwX59_init_0 ++ dktX59_init_1
theorem dksX59_init_0 : cX59_init.data.toList.drop 0 = dktX59_init_0 := by decide +kernel
theorem dksX59_init_1 : cX59_init.data.toList.drop 23 = dktX59_init_1 := dk_seg dksX59_init_0 23 rfl rfl
theorem dksX59_init_2 : cX59_init.data.toList.drop 47 = dktX59_init_2 := dk_seg dksX59_init_1 24 rfl rfl
theorem dX59_init_0 : decode cX59_init 0 = .ok (.aload_n 0, 1) := dk_42 (dk_at dksX59_init_0 0 rfl rfl)
theorem dX59_init_1 : decode cX59_init 1 = .ok (.invokespecial 3, 3) := dk_183 0 3 (dk_at dksX59_init_0 1 rfl rfl)
theorem dX59_init_4 : decode cX59_init 4 = .ok (.aload_n 0, 1) := dk_42 (dk_at dksX59_init_0 4 rfl rfl)
theorem dX59_init_5 : decode cX59_init 5 = .ok (.new 9, 3) := dk_187 0 9 (dk_at dksX59_init_0 5 rfl rfl)
theorem dX59_init_8 : decode cX59_init 8 = .ok (.dup, 1) := dk_89 (dk_at dksX59_init_0 8 rfl rfl)
theorem dX59_init_9 : decode cX59_init 9 = .ok (.invokespecial 11, 3) := dk_183 0 11 (dk_at dksX59_init_0 9 rfl rfl)
theorem dX59_init_12 : decode cX59_init 12 = .ok (.putfield 12, 3) := dk_181 0 12 (dk_at dksX59_init_0 12 rfl rfl)
theorem dX59_init_15 : decode cX59_init 15 = .ok (.aload_n 0, 1) := dk_42 (dk_at dksX59_init_0 15 rfl rfl)
theorem dX59_init_16 : decode cX59_init 16 = .ok (.iconst 1, 1) := dk_4 (dk_at dksX59_init_0 16 rfl rfl)
theorem dX59_init_17 : decode cX59_init 17 = .ok (.putfield 18, 3) := dk_181 0 18 (dk_at dksX59_init_0 17 rfl rfl)
theorem dX59_init_20 : decode cX59_init 20 = .ok (.aload_n 0, 1) := dk_42 (dk_at dksX59_init_0 20 rfl rfl)
theorem dX59_init_21 : decode cX59_init 21 = .ok (.bipush 8, 2) := dk_16 8 (dk_at dksX59_init_0 21 rfl rfl)
theorem dX59_init_23 : decode cX59_init 23 = .ok (.newarray .int, 2) := dk_188_10 (dk_at dksX59_init_1 0 rfl rfl)
theorem dX59_init_25 : decode cX59_init 25 = .ok (.putfield 22, 3) := dk_181 0 22 (dk_at dksX59_init_1 2 rfl rfl)
theorem dX59_init_28 : decode cX59_init 28 = .ok (.aload_n 0, 1) := dk_42 (dk_at dksX59_init_1 5 rfl rfl)
theorem dX59_init_29 : decode cX59_init 29 = .ok (.iload_n 1, 1) := dk_27 (dk_at dksX59_init_1 6 rfl rfl)
theorem dX59_init_30 : decode cX59_init 30 = .ok (.putfield 26, 3) := dk_181 0 26 (dk_at dksX59_init_1 7 rfl rfl)
theorem dX59_init_33 : decode cX59_init 33 = .ok (.aload_n 0, 1) := dk_42 (dk_at dksX59_init_1 10 rfl rfl)
theorem dX59_init_34 : decode cX59_init 34 = .ok (.getfield 12, 3) := dk_180 0 12 (dk_at dksX59_init_1 11 rfl rfl)
theorem dX59_init_37 : decode cX59_init 37 = .ok (.getfield 30, 3) := dk_180 0 30 (dk_at dksX59_init_1 14 rfl rfl)
theorem dX59_init_40 : decode cX59_init 40 = .ok (.iload_n 1, 1) := dk_27 (dk_at dksX59_init_1 17 rfl rfl)
theorem dX59_init_41 : decode cX59_init 41 = .ok (.invokestatic 34, 3) := dk_184 0 34 (dk_at dksX59_init_1 18 rfl rfl)
theorem dX59_init_44 : decode cX59_init 44 = .ok (.invokevirtual 40, 3) := dk_182 0 40 (dk_at dksX59_init_1 21 rfl rfl)
theorem dX59_init_47 : decode cX59_init 47 = .ok (.pop, 1) := dk_87 (dk_at dksX59_init_2 0 rfl rfl)
theorem dX59_init_48 : decode cX59_init 48 = .ok (.return_, 1) := dk_177 (dk_at dksX59_init_2 1 rfl rfl)
abbrev cX59_system : ByteArray := prog_11_method_2_code
def yX59_system : MethodName := ⟨RX59, "system", "()I"⟩
def dkwX59_system_0 : List UInt8 := [42, 180, 0, 26, 6, 112, 172]
abbrev dktX59_system_0 : List UInt8 := dkwX59_system_0 ++ []
theorem dksX59_system_0 : cX59_system.data.toList.drop 0 = dktX59_system_0 := by decide +kernel
theorem dX59_system_0 : decode cX59_system 0 = .ok (.aload_n 0, 1) := dk_42 (dk_at dksX59_system_0 0 rfl rfl)
theorem dX59_system_1 : decode cX59_system 1 = .ok (.getfield 26, 3) := dk_180 0 26 (dk_at dksX59_system_0 1 rfl rfl)
theorem dX59_system_4 : decode cX59_system 4 = .ok (.iconst 3, 1) := dk_6 (dk_at dksX59_system_0 4 rfl rfl)
theorem dX59_system_5 : decode cX59_system 5 = .ok (.irem, 1) := dk_112 (dk_at dksX59_system_0 5 rfl rfl)
theorem dX59_system_6 : decode cX59_system 6 = .ok (.ireturn, 1) := dk_172 (dk_at dksX59_system_0 6 rfl rfl)
theorem q482 : (Jvm.Cond.initialized "WasteHouse$DepositCodes$Machine") ∈ lw_all := lw_g (lw_at lw_m1 90 rfl) rfl
theorem q1982 : (Jvm.Cond.selects "WasteHouse$DepositCodes$Machine" ({ cls := "java/lang/Object", name := "getClass", desc := "()Ljava/lang/Class;" } : Jvm.MethodName) ({ cls := "java/lang/Object", name := "getClass", desc := "()Ljava/lang/Class;" } : Jvm.MethodName)) ∈ lw_all := lw_g (lw_at lw_m7 150 rfl) rfl
theorem q3090 : (Jvm.Cond.selects "WasteHouse$DepositCodes$Machine" ({ cls := "java/lang/Object", name := "equals", desc := "(Ljava/lang/Object;)Z" } : Jvm.MethodName) ({ cls := "java/lang/Object", name := "equals", desc := "(Ljava/lang/Object;)Z" } : Jvm.MethodName)) ∈ lw_all := lw_g (lw_at lw_m12 58 rfl) rfl
theorem q3534 : (Jvm.Cond.instantiable "WasteHouse$DepositCodes$Machine" (6 : Nat)) ∈ lw_all := lw_g (lw_at lw_m14 22 rfl) rfl
theorem q3536 : (Jvm.Cond.instanceMethod ({ cls := "WasteHouse$DepositCodes$Machine", name := "<init>", desc := "(I)V" } : Jvm.MethodName)) ∈ lw_all := lw_g (lw_at lw_m14 24 rfl) rfl
theorem q3537 : (Jvm.Cond.code ({ cls := "WasteHouse$DepositCodes$Machine", name := "<init>", desc := "(I)V" } : Jvm.MethodName) prog_11_method_1_code (2 : Nat) (Option.none : Option Jvm.ClassFile.FieldType)) ∈ lw_all := lw_g (lw_at lw_m14 25 rfl) rfl
theorem q3538 : (Jvm.Cond.methodLink "WasteHouse$DepositCodes$Machine" (3 : Nat) ({ cls := "java/lang/Object", name := "<init>", desc := "()V" } : Jvm.MethodName)) ∈ lw_all := lw_g (lw_at lw_m14 26 rfl) rfl
theorem q3539 : (Jvm.Cond.classLink "WasteHouse$DepositCodes$Machine" (9 : Nat) "WasteHouse$DepositCodes$PaidSet") ∈ lw_all := lw_g (lw_at lw_m14 27 rfl) rfl
theorem q3541 : (Jvm.Cond.methodLinkNest "WasteHouse$DepositCodes$Machine" (11 : Nat) ({ cls := "WasteHouse$DepositCodes$PaidSet", name := "<init>", desc := "()V" } : Jvm.MethodName) "WasteHouse") ∈ lw_tbl := lw_at lw_m14 29 rfl
theorem q3552 : (Jvm.Cond.fieldLink "WasteHouse$DepositCodes$Machine" (30 : Nat) "WasteHouse$DepositCodes$PaidSet" "machines" "Ljava/util/HashSet;") ∈ lw_all := lw_g (lw_at lw_m14 40 rfl) rfl
theorem q3559 : (Jvm.Cond.methodLink "WasteHouse$DepositCodes$Machine" (34 : Nat) ({ cls := "java/lang/Integer", name := "valueOf", desc := "(I)Ljava/lang/Integer;" } : Jvm.MethodName)) ∈ lw_all := lw_g (lw_at lw_m14 47 rfl) rfl
theorem q3578 : (Jvm.Cond.methodLink "WasteHouse$DepositCodes$Machine" (40 : Nat) ({ cls := "java/util/HashSet", name := "add", desc := "(Ljava/lang/Object;)Z" } : Jvm.MethodName)) ∈ lw_all := lw_g (lw_at lw_m14 66 rfl) rfl
theorem q3605 : (Jvm.Cond.selects "WasteHouse$DepositCodes$Machine" ({ cls := "java/lang/Object", name := "hashCode", desc := "()I" } : Jvm.MethodName) ({ cls := "java/lang/Object", name := "hashCode", desc := "()I" } : Jvm.MethodName)) ∈ lw_all := lw_g (lw_at lw_m14 93 rfl) rfl
theorem q4125 : (Jvm.Cond.fieldLink "WasteHouse$DepositCodes$Machine" (26 : Nat) "WasteHouse$DepositCodes$Machine" "number" "I") ∈ lw_all := lw_g (lw_at lw_m16 133 rfl) rfl
theorem q4127 : (Jvm.Cond.fieldLink "WasteHouse$DepositCodes$Machine" (12 : Nat) "WasteHouse$DepositCodes$Machine" "set" "LWasteHouse$DepositCodes$PaidSet;") ∈ lw_all := lw_g (lw_at lw_m16 135 rfl) rfl
theorem q4130 : (Jvm.Cond.fieldLink "WasteHouse$DepositCodes$Machine" (18 : Nat) "WasteHouse$DepositCodes$Machine" "hasPower" "Z") ∈ lw_all := lw_g (lw_at lw_m16 138 rfl) rfl
theorem q4132 : (Jvm.Cond.fieldLink "WasteHouse$DepositCodes$Machine" (22 : Nat) "WasteHouse$DepositCodes$Machine" "counts" "[I") ∈ lw_all := lw_g (lw_at lw_m16 140 rfl) rfl
theorem q4135 : (Jvm.Cond.laysFinal "WasteHouse$DepositCodes$Machine" "WasteHouse$DepositCodes$Machine" "number" "I") ∈ lw_all := lw_g (lw_at lw_m16 143 rfl) rfl
theorem q4136 : (Jvm.Cond.soleField "WasteHouse$DepositCodes$Machine" "number") ∈ lw_all := lw_g (lw_at lw_m16 144 rfl) rfl
theorem q4137 : (Jvm.Cond.lays "WasteHouse$DepositCodes$Machine" "WasteHouse$DepositCodes$Machine" "set" "LWasteHouse$DepositCodes$PaidSet;") ∈ lw_all := lw_g (lw_at lw_m16 145 rfl) rfl
theorem q4138 : (Jvm.Cond.soleField "WasteHouse$DepositCodes$Machine" "set") ∈ lw_all := lw_g (lw_at lw_m16 146 rfl) rfl
theorem q4139 : (Jvm.Cond.lays "WasteHouse$DepositCodes$Machine" "WasteHouse$DepositCodes$Machine" "isFull" "Z") ∈ lw_all := lw_g (lw_at lw_m16 147 rfl) rfl
theorem q4140 : (Jvm.Cond.soleField "WasteHouse$DepositCodes$Machine" "isFull") ∈ lw_all := lw_g (lw_at lw_m16 148 rfl) rfl
theorem q4141 : (Jvm.Cond.lays "WasteHouse$DepositCodes$Machine" "WasteHouse$DepositCodes$Machine" "hasPower" "Z") ∈ lw_all := lw_g (lw_at lw_m16 149 rfl) rfl
theorem q4142 : (Jvm.Cond.soleField "WasteHouse$DepositCodes$Machine" "hasPower") ∈ lw_all := lw_g (lw_at lw_m16 150 rfl) rfl
theorem q4143 : (Jvm.Cond.laysFinal "WasteHouse$DepositCodes$Machine" "WasteHouse$DepositCodes$Machine" "counts" "[I") ∈ lw_all := lw_g (lw_at lw_m16 151 rfl) rfl
theorem q4144 : (Jvm.Cond.soleField "WasteHouse$DepositCodes$Machine" "counts") ∈ lw_all := lw_g (lw_at lw_m16 152 rfl) rfl
theorem q4145 : (Jvm.Cond.lays "WasteHouse$DepositCodes$Machine" "WasteHouse$DepositCodes$Machine" "open" "I") ∈ lw_all := lw_g (lw_at lw_m16 153 rfl) rfl
theorem q4146 : (Jvm.Cond.soleField "WasteHouse$DepositCodes$Machine" "open") ∈ lw_all := lw_g (lw_at lw_m16 154 rfl) rfl
theorem q4147 : (Jvm.Cond.superclass "WasteHouse$DepositCodes$Machine" "java/lang/Object") ∈ lw_all := lw_g (lw_at lw_m16 155 rfl) rfl
theorem q4320 : (Jvm.Cond.instanceMethod ({ cls := "WasteHouse$DepositCodes$Machine", name := "system", desc := "()I" } : Jvm.MethodName)) ∈ lw_all := lw_g (lw_at lw_m17 88 rfl) rfl
theorem q4321 : (Jvm.Cond.selects "WasteHouse$DepositCodes$Machine" ({ cls := "WasteHouse$DepositCodes$Machine", name := "system", desc := "()I" } : Jvm.MethodName) ({ cls := "WasteHouse$DepositCodes$Machine", name := "system", desc := "()I" } : Jvm.MethodName)) ∈ lw_all := lw_g (lw_at lw_m17 89 rfl) rfl
theorem q4322 : (Jvm.Cond.code ({ cls := "WasteHouse$DepositCodes$Machine", name := "system", desc := "()I" } : Jvm.MethodName) prog_11_method_2_code (1 : Nat) (Option.some Jvm.ClassFile.FieldType.int)) ∈ lw_all := lw_g (lw_at lw_m17 90 rfl) rfl
theorem q9687 : (Jvm.Cond.castable "WasteHouse$DepositCodes$Machine" "java/lang/Object") ∈ lw_tbl := lw_at lw_m39 175 rfl
theorem in_X59 : ∀ w ∈ wsX590, w ∈ lw_all := lw_in wsX590 [4135, 4137, 4139, 4141, 4143, 4145] (by decide +kernel) (by decide +kernel)
