/-! WasteHouse$DepositCodes$Span -/
set_option maxRecDepth 100000
def RX61 : String := "WasteHouse$DepositCodes$Span"
def TX61 : u_T := fun k => match k with
  | 0 => ("WasteHouse$DepositCodes$Span", "least", "I", true)
  | _ => ("WasteHouse$DepositCodes$Span", "most", "I", true)
def tyX61 : Nat → FieldType := fun k => match k with
  | 0 => .int
  | _ => .int
abbrev wsX610 : List Cond := u_ws RX61 TX61 2
theorem nmX61 : ∀ a, a < 2 → ∀ b, b < 2 → a ≠ b → (TX61 a).2.1 ≠ (TX61 b).2.1 := by decide +kernel
theorem tyX61_ok : ∀ k, k < 2 → parseFieldDescriptor (TX61 k).2.2.1 = some (tyX61 k) := by decide +kernel
abbrev cX61_init : ByteArray := prog_14_method_1_code
def yX61_init : MethodName := ⟨RX61, "<init>", "(II)V"⟩
def dkwX61_init_0 : List UInt8 := [42, 183, 0, 1, 42, 27, 181, 0, 7, 42, 28, 181, 0, 13, 177]
abbrev dktX61_init_0 : List UInt8 := dkwX61_init_0 ++ []
theorem dksX61_init_0 : cX61_init.data.toList.drop 0 = dktX61_init_0 := by decide +kernel
theorem dX61_init_0 : decode cX61_init 0 = .ok (.aload_n 0, 1) := dk_42 (dk_at dksX61_init_0 0 rfl rfl)
theorem dX61_init_1 : decode cX61_init 1 = .ok (.invokespecial 1, 3) := dk_183 0 1 (dk_at dksX61_init_0 1 rfl rfl)
theorem dX61_init_4 : decode cX61_init 4 = .ok (.aload_n 0, 1) := dk_42 (dk_at dksX61_init_0 4 rfl rfl)
theorem dX61_init_5 : decode cX61_init 5 = .ok (.iload_n 1, 1) := dk_27 (dk_at dksX61_init_0 5 rfl rfl)
theorem dX61_init_6 : decode cX61_init 6 = .ok (.putfield 7, 3) := dk_181 0 7 (dk_at dksX61_init_0 6 rfl rfl)
theorem dX61_init_9 : decode cX61_init 9 = .ok (.aload_n 0, 1) := dk_42 (dk_at dksX61_init_0 9 rfl rfl)
theorem dX61_init_10 : decode cX61_init 10 = .ok (.iload_n 2, 1) := dk_28 (dk_at dksX61_init_0 10 rfl rfl)
theorem dX61_init_11 : decode cX61_init 11 = .ok (.putfield 13, 3) := dk_181 0 13 (dk_at dksX61_init_0 11 rfl rfl)
theorem dX61_init_14 : decode cX61_init 14 = .ok (.return_, 1) := dk_177 (dk_at dksX61_init_0 14 rfl rfl)
abbrev cX61_has : ByteArray := prog_14_method_4_code
def yX61_has : MethodName := ⟨RX61, "has", "(I)Z"⟩
def dkwX61_has_0 : List UInt8 := [27, 42, 180, 0, 7, 161, 0, 15, 27, 42, 180, 0, 13, 163, 0, 7, 4, 167, 0, 4, 3, 172]
abbrev dktX61_has_0 : List UInt8 := dkwX61_has_0 ++ []
theorem dksX61_has_0 : cX61_has.data.toList.drop 0 = dktX61_has_0 := by decide +kernel
theorem dX61_has_0 : decode cX61_has 0 = .ok (.iload_n 1, 1) := dk_27 (dk_at dksX61_has_0 0 rfl rfl)
theorem dX61_has_1 : decode cX61_has 1 = .ok (.aload_n 0, 1) := dk_42 (dk_at dksX61_has_0 1 rfl rfl)
theorem dX61_has_2 : decode cX61_has 2 = .ok (.getfield 7, 3) := dk_180 0 7 (dk_at dksX61_has_0 2 rfl rfl)
theorem dX61_has_5 : decode cX61_has 5 = .ok (.if_icmp .lt 15, 3) := dk_161 0 15 (dk_at dksX61_has_0 5 rfl rfl)
theorem dX61_has_8 : decode cX61_has 8 = .ok (.iload_n 1, 1) := dk_27 (dk_at dksX61_has_0 8 rfl rfl)
theorem dX61_has_9 : decode cX61_has 9 = .ok (.aload_n 0, 1) := dk_42 (dk_at dksX61_has_0 9 rfl rfl)
theorem dX61_has_10 : decode cX61_has 10 = .ok (.getfield 13, 3) := dk_180 0 13 (dk_at dksX61_has_0 10 rfl rfl)
theorem dX61_has_13 : decode cX61_has 13 = .ok (.if_icmp .gt 7, 3) := dk_163 0 7 (dk_at dksX61_has_0 13 rfl rfl)
theorem dX61_has_16 : decode cX61_has 16 = .ok (.iconst 1, 1) := dk_4 (dk_at dksX61_has_0 16 rfl rfl)
theorem dX61_has_17 : decode cX61_has 17 = .ok (.goto 4, 3) := dk_167 0 4 (dk_at dksX61_has_0 17 rfl rfl)
theorem dX61_has_20 : decode cX61_has 20 = .ok (.iconst 0, 1) := dk_3 (dk_at dksX61_has_0 20 rfl rfl)
theorem dX61_has_21 : decode cX61_has 21 = .ok (.ireturn, 1) := dk_172 (dk_at dksX61_has_0 21 rfl rfl)
theorem q491 : (Jvm.Cond.initialized "WasteHouse$DepositCodes$Span") ∈ lw_all := lw_g (lw_at lw_m1 99 rfl) rfl
theorem q1984 : (Jvm.Cond.selects "WasteHouse$DepositCodes$Span" ({ cls := "java/lang/Object", name := "getClass", desc := "()Ljava/lang/Class;" } : Jvm.MethodName) ({ cls := "java/lang/Object", name := "getClass", desc := "()Ljava/lang/Class;" } : Jvm.MethodName)) ∈ lw_all := lw_g (lw_at lw_m7 152 rfl) rfl
theorem q3092 : (Jvm.Cond.selects "WasteHouse$DepositCodes$Span" ({ cls := "java/lang/Object", name := "equals", desc := "(Ljava/lang/Object;)Z" } : Jvm.MethodName) ({ cls := "java/lang/Object", name := "equals", desc := "(Ljava/lang/Object;)Z" } : Jvm.MethodName)) ∈ lw_all := lw_g (lw_at lw_m12 60 rfl) rfl
theorem q3607 : (Jvm.Cond.selects "WasteHouse$DepositCodes$Span" ({ cls := "java/lang/Object", name := "hashCode", desc := "()I" } : Jvm.MethodName) ({ cls := "java/lang/Object", name := "hashCode", desc := "()I" } : Jvm.MethodName)) ∈ lw_all := lw_g (lw_at lw_m14 95 rfl) rfl
theorem q4154 : (Jvm.Cond.instantiable "WasteHouse$DepositCodes$Span" (2 : Nat)) ∈ lw_all := lw_g (lw_at lw_m16 162 rfl) rfl
theorem q4156 : (Jvm.Cond.instanceMethod ({ cls := "WasteHouse$DepositCodes$Span", name := "<init>", desc := "(II)V" } : Jvm.MethodName)) ∈ lw_all := lw_g (lw_at lw_m16 164 rfl) rfl
theorem q4157 : (Jvm.Cond.code ({ cls := "WasteHouse$DepositCodes$Span", name := "<init>", desc := "(II)V" } : Jvm.MethodName) prog_14_method_1_code (3 : Nat) (Option.none : Option Jvm.ClassFile.FieldType)) ∈ lw_all := lw_g (lw_at lw_m16 165 rfl) rfl
theorem q4158 : (Jvm.Cond.methodLink "WasteHouse$DepositCodes$Span" (1 : Nat) ({ cls := "java/lang/Object", name := "<init>", desc := "()V" } : Jvm.MethodName)) ∈ lw_all := lw_g (lw_at lw_m16 166 rfl) rfl
theorem q4159 : (Jvm.Cond.fieldLink "WasteHouse$DepositCodes$Span" (7 : Nat) "WasteHouse$DepositCodes$Span" "least" "I") ∈ lw_all := lw_g (lw_at lw_m16 167 rfl) rfl
theorem q4160 : (Jvm.Cond.fieldLink "WasteHouse$DepositCodes$Span" (13 : Nat) "WasteHouse$DepositCodes$Span" "most" "I") ∈ lw_all := lw_g (lw_at lw_m16 168 rfl) rfl
theorem q4161 : (Jvm.Cond.laysFinal "WasteHouse$DepositCodes$Span" "WasteHouse$DepositCodes$Span" "least" "I") ∈ lw_all := lw_g (lw_at lw_m16 169 rfl) rfl
theorem q4162 : (Jvm.Cond.soleField "WasteHouse$DepositCodes$Span" "least") ∈ lw_all := lw_g (lw_at lw_m16 170 rfl) rfl
theorem q4163 : (Jvm.Cond.laysFinal "WasteHouse$DepositCodes$Span" "WasteHouse$DepositCodes$Span" "most" "I") ∈ lw_all := lw_g (lw_at lw_m16 171 rfl) rfl
theorem q4164 : (Jvm.Cond.soleField "WasteHouse$DepositCodes$Span" "most") ∈ lw_all := lw_g (lw_at lw_m16 172 rfl) rfl
theorem q4165 : (Jvm.Cond.superclass "WasteHouse$DepositCodes$Span" "java/lang/Object") ∈ lw_all := lw_g (lw_at lw_m16 173 rfl) rfl
theorem q4189 : (Jvm.Cond.instanceMethod ({ cls := "WasteHouse$DepositCodes$Span", name := "has", desc := "(I)Z" } : Jvm.MethodName)) ∈ lw_all := lw_g (lw_at lw_m16 197 rfl) rfl
theorem q4190 : (Jvm.Cond.selects "WasteHouse$DepositCodes$Span" ({ cls := "WasteHouse$DepositCodes$Span", name := "has", desc := "(I)Z" } : Jvm.MethodName) ({ cls := "WasteHouse$DepositCodes$Span", name := "has", desc := "(I)Z" } : Jvm.MethodName)) ∈ lw_all := lw_g (lw_at lw_m16 198 rfl) rfl
theorem q4191 : (Jvm.Cond.code ({ cls := "WasteHouse$DepositCodes$Span", name := "has", desc := "(I)Z" } : Jvm.MethodName) prog_14_method_4_code (2 : Nat) (Option.some Jvm.ClassFile.FieldType.boolean)) ∈ lw_all := lw_g (lw_at lw_m16 199 rfl) rfl
theorem q9628 : (Jvm.Cond.castable "WasteHouse$DepositCodes$Span" "java/lang/Object") ∈ lw_tbl := lw_at lw_m39 116 rfl
theorem in_X61 : ∀ w ∈ wsX610, w ∈ lw_all := lw_in wsX610 [4161, 4163] (by decide +kernel) (by decide +kernel)
