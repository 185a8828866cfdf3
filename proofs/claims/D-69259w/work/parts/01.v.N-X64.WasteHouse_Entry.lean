/-! WasteHouse$Entry -/
set_option maxRecDepth 100000
def RX64 : String := "WasteHouse$Entry"
def TX64 : u_T := fun k => match k with
  | 0 => ("WasteHouse$Entry", "debit", "I", true)
  | 1 => ("WasteHouse$Entry", "credit", "I", true)
  | _ => ("WasteHouse$Entry", "cents", "J", true)
def tyX64 : Nat → FieldType := fun k => match k with
  | 0 => .int
  | 1 => .int
  | _ => .long
abbrev wsX640 : List Cond := u_ws RX64 TX64 3
theorem nmX64 : ∀ a, a < 3 → ∀ b, b < 3 → a ≠ b → (TX64 a).2.1 ≠ (TX64 b).2.1 := by decide +kernel
theorem tyX64_ok : ∀ k, k < 3 → parseFieldDescriptor (TX64 k).2.2.1 = some (tyX64 k) := by decide +kernel
abbrev cX64_init : ByteArray := prog_17_method_1_code
def yX64_init : MethodName := ⟨RX64, "<init>", "(IIJ)V"⟩
def dkwX64_init_0 : List UInt8 := [42, 183, 0, 1, 42, 27, 181, 0, 7, 42, 28, 181, 0, 13, 42, 33, 181, 0, 16, 177]
abbrev dktX64_init_0 : List UInt8 := dkwX64_init_0 ++ []
theorem dksX64_init_0 : cX64_init.data.toList.drop 0 = dktX64_init_0 := by decide +kernel
theorem dX64_init_0 : decode cX64_init 0 = .ok (.aload_n 0, 1) := dk_42 (dk_at dksX64_init_0 0 rfl rfl)
theorem dX64_init_1 : decode cX64_init 1 = .ok (.invokespecial 1, 3) := dk_183 0 1 (dk_at dksX64_init_0 1 rfl rfl)
theorem dX64_init_4 : decode cX64_init 4 = .ok (.aload_n 0, 1) := dk_42 (dk_at dksX64_init_0 4 rfl rfl)
theorem dX64_init_5 : decode cX64_init 5 = .ok (.iload_n 1, 1) := dk_27 (dk_at dksX64_init_0 5 rfl rfl)
theorem dX64_init_6 : decode cX64_init 6 = .ok (.putfield 7, 3) := dk_181 0 7 (dk_at dksX64_init_0 6 rfl rfl)
theorem dX64_init_9 : decode cX64_init 9 = .ok (.aload_n 0, 1) := dk_42 (dk_at dksX64_init_0 9 rfl rfl)
theorem dX64_init_10 : decode cX64_init 10 = .ok (.iload_n 2, 1) := dk_28 (dk_at dksX64_init_0 10 rfl rfl)
theorem dX64_init_11 : decode cX64_init 11 = .ok (.putfield 13, 3) := dk_181 0 13 (dk_at dksX64_init_0 11 rfl rfl)
theorem dX64_init_14 : decode cX64_init 14 = .ok (.aload_n 0, 1) := dk_42 (dk_at dksX64_init_0 14 rfl rfl)
theorem dX64_init_15 : decode cX64_init 15 = .ok (.lload_n 3, 1) := dk_33 (dk_at dksX64_init_0 15 rfl rfl)
theorem dX64_init_16 : decode cX64_init 16 = .ok (.putfield 16, 3) := dk_181 0 16 (dk_at dksX64_init_0 16 rfl rfl)
theorem dX64_init_19 : decode cX64_init 19 = .ok (.return_, 1) := dk_177 (dk_at dksX64_init_0 19 rfl rfl)
abbrev cX64_debit : ByteArray := prog_17_method_2_code
def yX64_debit : MethodName := ⟨RX64, "debit", "()I"⟩
theorem dX64_debit_0 : decode cX64_debit 0 = .ok (.aload_n 0, 1) := by decide +kernel
theorem dX64_debit_1 : decode cX64_debit 1 = .ok (.getfield 7, 3) := by decide +kernel
theorem dX64_debit_4 : decode cX64_debit 4 = .ok (.ireturn, 1) := by decide +kernel
abbrev cX64_credit : ByteArray := prog_17_method_3_code
def yX64_credit : MethodName := ⟨RX64, "credit", "()I"⟩
theorem dX64_credit_0 : decode cX64_credit 0 = .ok (.aload_n 0, 1) := by decide +kernel
theorem dX64_credit_1 : decode cX64_credit 1 = .ok (.getfield 13, 3) := by decide +kernel
theorem dX64_credit_4 : decode cX64_credit 4 = .ok (.ireturn, 1) := by decide +kernel
abbrev cX64_cents : ByteArray := prog_17_method_4_code
def yX64_cents : MethodName := ⟨RX64, "cents", "()J"⟩
theorem dX64_cents_0 : decode cX64_cents 0 = .ok (.aload_n 0, 1) := by decide +kernel
theorem dX64_cents_1 : decode cX64_cents 1 = .ok (.getfield 16, 3) := by decide +kernel
theorem dX64_cents_4 : decode cX64_cents 4 = .ok (.lreturn, 1) := by decide +kernel
theorem q505 : (Jvm.Cond.initialized "WasteHouse$Entry") ∈ lw_all := lw_g (lw_at lw_m1 113 rfl) rfl
theorem q1987 : (Jvm.Cond.selects "WasteHouse$Entry" ({ cls := "java/lang/Object", name := "getClass", desc := "()Ljava/lang/Class;" } : Jvm.MethodName) ({ cls := "java/lang/Object", name := "getClass", desc := "()Ljava/lang/Class;" } : Jvm.MethodName)) ∈ lw_all := lw_g (lw_at lw_m7 155 rfl) rfl
theorem q3095 : (Jvm.Cond.selects "WasteHouse$Entry" ({ cls := "java/lang/Object", name := "equals", desc := "(Ljava/lang/Object;)Z" } : Jvm.MethodName) ({ cls := "java/lang/Object", name := "equals", desc := "(Ljava/lang/Object;)Z" } : Jvm.MethodName)) ∈ lw_all := lw_g (lw_at lw_m12 63 rfl) rfl
theorem q3610 : (Jvm.Cond.selects "WasteHouse$Entry" ({ cls := "java/lang/Object", name := "hashCode", desc := "()I" } : Jvm.MethodName) ({ cls := "java/lang/Object", name := "hashCode", desc := "()I" } : Jvm.MethodName)) ∈ lw_all := lw_g (lw_at lw_m14 98 rfl) rfl
theorem q5461 : (Jvm.Cond.instantiable "WasteHouse$Entry" (3 : Nat)) ∈ lw_all := lw_g (lw_at lw_m22 29 rfl) rfl
theorem q5463 : (Jvm.Cond.instanceMethod ({ cls := "WasteHouse$Entry", name := "<init>", desc := "(IIJ)V" } : Jvm.MethodName)) ∈ lw_all := lw_g (lw_at lw_m22 31 rfl) rfl
theorem q5464 : (Jvm.Cond.code ({ cls := "WasteHouse$Entry", name := "<init>", desc := "(IIJ)V" } : Jvm.MethodName) prog_17_method_1_code (5 : Nat) (Option.none : Option Jvm.ClassFile.FieldType)) ∈ lw_all := lw_g (lw_at lw_m22 32 rfl) rfl
theorem q5465 : (Jvm.Cond.methodLink "WasteHouse$Entry" (1 : Nat) ({ cls := "java/lang/Object", name := "<init>", desc := "()V" } : Jvm.MethodName)) ∈ lw_all := lw_g (lw_at lw_m22 33 rfl) rfl
theorem q5466 : (Jvm.Cond.fieldLink "WasteHouse$Entry" (7 : Nat) "WasteHouse$Entry" "debit" "I") ∈ lw_all := lw_g (lw_at lw_m22 34 rfl) rfl
theorem q5467 : (Jvm.Cond.fieldLink "WasteHouse$Entry" (13 : Nat) "WasteHouse$Entry" "credit" "I") ∈ lw_all := lw_g (lw_at lw_m22 35 rfl) rfl
theorem q5468 : (Jvm.Cond.fieldLink "WasteHouse$Entry" (16 : Nat) "WasteHouse$Entry" "cents" "J") ∈ lw_all := lw_g (lw_at lw_m22 36 rfl) rfl
theorem q5469 : (Jvm.Cond.laysFinal "WasteHouse$Entry" "WasteHouse$Entry" "debit" "I") ∈ lw_all := lw_g (lw_at lw_m22 37 rfl) rfl
theorem q5470 : (Jvm.Cond.soleField "WasteHouse$Entry" "debit") ∈ lw_all := lw_g (lw_at lw_m22 38 rfl) rfl
theorem q5471 : (Jvm.Cond.laysFinal "WasteHouse$Entry" "WasteHouse$Entry" "credit" "I") ∈ lw_all := lw_g (lw_at lw_m22 39 rfl) rfl
theorem q5472 : (Jvm.Cond.soleField "WasteHouse$Entry" "credit") ∈ lw_all := lw_g (lw_at lw_m22 40 rfl) rfl
theorem q5473 : (Jvm.Cond.laysFinal "WasteHouse$Entry" "WasteHouse$Entry" "cents" "J") ∈ lw_all := lw_g (lw_at lw_m22 41 rfl) rfl
theorem q5474 : (Jvm.Cond.soleField "WasteHouse$Entry" "cents") ∈ lw_all := lw_g (lw_at lw_m22 42 rfl) rfl
theorem q5475 : (Jvm.Cond.superclass "WasteHouse$Entry" "java/lang/Object") ∈ lw_all := lw_g (lw_at lw_m22 43 rfl) rfl
theorem q5641 : (Jvm.Cond.instanceMethod ({ cls := "WasteHouse$Entry", name := "debit", desc := "()I" } : Jvm.MethodName)) ∈ lw_all := lw_g (lw_at lw_m22 209 rfl) rfl
theorem q5642 : (Jvm.Cond.selects "WasteHouse$Entry" ({ cls := "WasteHouse$Entry", name := "debit", desc := "()I" } : Jvm.MethodName) ({ cls := "WasteHouse$Entry", name := "debit", desc := "()I" } : Jvm.MethodName)) ∈ lw_all := lw_g (lw_at lw_m22 210 rfl) rfl
theorem q5643 : (Jvm.Cond.code ({ cls := "WasteHouse$Entry", name := "debit", desc := "()I" } : Jvm.MethodName) prog_17_method_2_code (1 : Nat) (Option.some Jvm.ClassFile.FieldType.int)) ∈ lw_all := lw_g (lw_at lw_m22 211 rfl) rfl
theorem q5645 : (Jvm.Cond.instanceMethod ({ cls := "WasteHouse$Entry", name := "credit", desc := "()I" } : Jvm.MethodName)) ∈ lw_all := lw_g (lw_at lw_m22 213 rfl) rfl
theorem q5646 : (Jvm.Cond.selects "WasteHouse$Entry" ({ cls := "WasteHouse$Entry", name := "credit", desc := "()I" } : Jvm.MethodName) ({ cls := "WasteHouse$Entry", name := "credit", desc := "()I" } : Jvm.MethodName)) ∈ lw_all := lw_g (lw_at lw_m22 214 rfl) rfl
theorem q5647 : (Jvm.Cond.code ({ cls := "WasteHouse$Entry", name := "credit", desc := "()I" } : Jvm.MethodName) prog_17_method_3_code (1 : Nat) (Option.some Jvm.ClassFile.FieldType.int)) ∈ lw_all := lw_g (lw_at lw_m22 215 rfl) rfl
theorem q5649 : (Jvm.Cond.instanceMethod ({ cls := "WasteHouse$Entry", name := "cents", desc := "()J" } : Jvm.MethodName)) ∈ lw_all := lw_g (lw_at lw_m22 217 rfl) rfl
theorem q5650 : (Jvm.Cond.selects "WasteHouse$Entry" ({ cls := "WasteHouse$Entry", name := "cents", desc := "()J" } : Jvm.MethodName) ({ cls := "WasteHouse$Entry", name := "cents", desc := "()J" } : Jvm.MethodName)) ∈ lw_all := lw_g (lw_at lw_m22 218 rfl) rfl
theorem q5651 : (Jvm.Cond.code ({ cls := "WasteHouse$Entry", name := "cents", desc := "()J" } : Jvm.MethodName) prog_17_method_4_code (1 : Nat) (Option.some Jvm.ClassFile.FieldType.long)) ∈ lw_all := lw_g (lw_at lw_m22 219 rfl) rfl
theorem q9704 : (Jvm.Cond.castable "WasteHouse$Entry" "java/lang/Object") ∈ lw_tbl := lw_at lw_m39 192 rfl
theorem in_X64 : ∀ w ∈ wsX640, w ∈ lw_all := lw_in wsX640 [5469, 5471, 5473] (by decide +kernel) (by decide +kernel)
