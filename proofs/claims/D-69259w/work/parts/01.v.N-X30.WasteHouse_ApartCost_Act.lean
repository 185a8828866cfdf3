/-! WasteHouse$ApartCost$Act -/
set_option maxRecDepth 100000
def RX30 : String := "WasteHouse$ApartCost$Act"
def TX30 : u_T := fun k => match k with
  | 0 => ("WasteHouse$ApartCost$Act", "frees", "I", false)
  | 1 => ("WasteHouse$ApartCost$Act", "tool", "I", false)
  | 2 => ("WasteHouse$ApartCost$Act", "side", "I", false)
  | 3 => ("WasteHouse$ApartCost$Act", "cents", "I", false)
  | 4 => ("WasteHouse$ApartCost$Act", "breaks", "Z", false)
  | _ => ("WasteHouse$ApartCost$Act", "needs", "I", false)
def tyX30 : Nat → FieldType := fun k => match k with
  | 0 => .int
  | 1 => .int
  | 2 => .int
  | 3 => .int
  | 4 => .boolean
  | _ => .int
abbrev wsX300 : List Cond := u_ws RX30 TX30 6
theorem nmX30 : ∀ a, a < 6 → ∀ b, b < 6 → a ≠ b → (TX30 a).2.1 ≠ (TX30 b).2.1 := by decide +kernel
theorem tyX30_ok : ∀ k, k < 6 → parseFieldDescriptor (TX30 k).2.2.1 = some (tyX30 k) := by decide +kernel
abbrev cX30_init : ByteArray := prog_3_method_1_code
def yX30_init : MethodName := ⟨RX30, "<init>", "()V"⟩
theorem dX30_init_0 : decode cX30_init 0 = .ok (.aload_n 0, 1) := by decide +kernel
theorem dX30_init_1 : decode cX30_init 1 = .ok (.invokespecial 1, 3) := by decide +kernel
theorem dX30_init_4 : decode cX30_init 4 = .ok (.return_, 1) := by decide +kernel
theorem q429 : (Jvm.Cond.initialized "WasteHouse$ApartCost$Act") ∈ lw_all := lw_g (lw_at lw_m1 37 rfl) rfl
theorem q1543 : (Jvm.Cond.instantiable "WasteHouse$ApartCost$Act" (6 : Nat)) ∈ lw_all := lw_g (lw_at lw_m5 191 rfl) rfl
theorem q1545 : (Jvm.Cond.instanceMethod ({ cls := "WasteHouse$ApartCost$Act", name := "<init>", desc := "()V" } : Jvm.MethodName)) ∈ lw_all := lw_g (lw_at lw_m5 193 rfl) rfl
theorem q1546 : (Jvm.Cond.code ({ cls := "WasteHouse$ApartCost$Act", name := "<init>", desc := "()V" } : Jvm.MethodName) prog_3_method_1_code (1 : Nat) (Option.none : Option Jvm.ClassFile.FieldType)) ∈ lw_all := lw_g (lw_at lw_m5 194 rfl) rfl
theorem q1547 : (Jvm.Cond.methodLink "WasteHouse$ApartCost$Act" (1 : Nat) ({ cls := "java/lang/Object", name := "<init>", desc := "()V" } : Jvm.MethodName)) ∈ lw_all := lw_g (lw_at lw_m5 195 rfl) rfl
theorem q1554 : (Jvm.Cond.lays "WasteHouse$ApartCost$Act" "WasteHouse$ApartCost$Act" "frees" "I") ∈ lw_all := lw_g (lw_at lw_m5 202 rfl) rfl
theorem q1555 : (Jvm.Cond.soleField "WasteHouse$ApartCost$Act" "frees") ∈ lw_all := lw_g (lw_at lw_m5 203 rfl) rfl
theorem q1556 : (Jvm.Cond.lays "WasteHouse$ApartCost$Act" "WasteHouse$ApartCost$Act" "tool" "I") ∈ lw_all := lw_g (lw_at lw_m5 204 rfl) rfl
theorem q1557 : (Jvm.Cond.soleField "WasteHouse$ApartCost$Act" "tool") ∈ lw_all := lw_g (lw_at lw_m5 205 rfl) rfl
theorem q1558 : (Jvm.Cond.lays "WasteHouse$ApartCost$Act" "WasteHouse$ApartCost$Act" "side" "I") ∈ lw_all := lw_g (lw_at lw_m5 206 rfl) rfl
theorem q1559 : (Jvm.Cond.soleField "WasteHouse$ApartCost$Act" "side") ∈ lw_all := lw_g (lw_at lw_m5 207 rfl) rfl
theorem q1560 : (Jvm.Cond.lays "WasteHouse$ApartCost$Act" "WasteHouse$ApartCost$Act" "cents" "I") ∈ lw_all := lw_g (lw_at lw_m5 208 rfl) rfl
theorem q1561 : (Jvm.Cond.soleField "WasteHouse$ApartCost$Act" "cents") ∈ lw_all := lw_g (lw_at lw_m5 209 rfl) rfl
theorem q1562 : (Jvm.Cond.lays "WasteHouse$ApartCost$Act" "WasteHouse$ApartCost$Act" "breaks" "Z") ∈ lw_all := lw_g (lw_at lw_m5 210 rfl) rfl
theorem q1563 : (Jvm.Cond.soleField "WasteHouse$ApartCost$Act" "breaks") ∈ lw_all := lw_g (lw_at lw_m5 211 rfl) rfl
theorem q1564 : (Jvm.Cond.lays "WasteHouse$ApartCost$Act" "WasteHouse$ApartCost$Act" "needs" "I") ∈ lw_all := lw_g (lw_at lw_m5 212 rfl) rfl
theorem q1565 : (Jvm.Cond.soleField "WasteHouse$ApartCost$Act" "needs") ∈ lw_all := lw_g (lw_at lw_m5 213 rfl) rfl
theorem q1566 : (Jvm.Cond.superclass "WasteHouse$ApartCost$Act" "java/lang/Object") ∈ lw_all := lw_g (lw_at lw_m5 214 rfl) rfl
theorem q1974 : (Jvm.Cond.selects "WasteHouse$ApartCost$Act" ({ cls := "java/lang/Object", name := "getClass", desc := "()Ljava/lang/Class;" } : Jvm.MethodName) ({ cls := "java/lang/Object", name := "getClass", desc := "()Ljava/lang/Class;" } : Jvm.MethodName)) ∈ lw_all := lw_g (lw_at lw_m7 142 rfl) rfl
theorem q3082 : (Jvm.Cond.selects "WasteHouse$ApartCost$Act" ({ cls := "java/lang/Object", name := "equals", desc := "(Ljava/lang/Object;)Z" } : Jvm.MethodName) ({ cls := "java/lang/Object", name := "equals", desc := "(Ljava/lang/Object;)Z" } : Jvm.MethodName)) ∈ lw_all := lw_g (lw_at lw_m12 50 rfl) rfl
theorem q3597 : (Jvm.Cond.selects "WasteHouse$ApartCost$Act" ({ cls := "java/lang/Object", name := "hashCode", desc := "()I" } : Jvm.MethodName) ({ cls := "java/lang/Object", name := "hashCode", desc := "()I" } : Jvm.MethodName)) ∈ lw_all := lw_g (lw_at lw_m14 85 rfl) rfl
theorem q9625 : (Jvm.Cond.castable "WasteHouse$ApartCost$Act" "java/lang/Object") ∈ lw_tbl := lw_at lw_m39 113 rfl
theorem in_X30 : ∀ w ∈ wsX300, w ∈ lw_all := lw_in wsX300 [1554, 1556, 1558, 1560, 1562, 1564] (by decide +kernel) (by decide +kernel)
