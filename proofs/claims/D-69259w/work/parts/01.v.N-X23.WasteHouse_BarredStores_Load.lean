/-! WasteHouse$BarredStores$Load -/
set_option maxRecDepth 100000
def RX23 : String := "WasteHouse$BarredStores$Load"
def TX23 : u_T := fun k => match k with
  | 0 => ("WasteHouse$BarredStores$Load", "cls", "I", false)
  | 1 => ("WasteHouse$BarredStores$Load", "grams", "J", false)
  | 2 => ("WasteHouse$BarredStores$Load", "litres", "J", false)
  | 3 => ("WasteHouse$BarredStores$Load", "at", "I", false)
  | 4 => ("WasteHouse$BarredStores$Load", "gone", "Z", false)
  | _ => ("WasteHouse$BarredStores$Load", "came", "I", false)
def tyX23 : Nat → FieldType := fun k => match k with
  | 0 => .int
  | 1 => .long
  | 2 => .long
  | 3 => .int
  | 4 => .boolean
  | _ => .int
abbrev wsX230 : List Cond := u_ws RX23 TX23 6
theorem nmX23 : ∀ a, a < 6 → ∀ b, b < 6 → a ≠ b → (TX23 a).2.1 ≠ (TX23 b).2.1 := by decide +kernel
theorem tyX23_ok : ∀ k, k < 6 → parseFieldDescriptor (TX23 k).2.2.1 = some (tyX23 k) := by decide +kernel
abbrev cX23_init : ByteArray := prog_7_method_1_code
def yX23_init : MethodName := ⟨RX23, "<init>", "()V"⟩
theorem dX23_init_0 : decode cX23_init 0 = .ok (.aload_n 0, 1) := by decide +kernel
theorem dX23_init_1 : decode cX23_init 1 = .ok (.invokespecial 1, 3) := by decide +kernel
theorem dX23_init_4 : decode cX23_init 4 = .ok (.return_, 1) := by decide +kernel
theorem q422 : (Jvm.Cond.initialized "WasteHouse$BarredStores$Load") ∈ lw_all := lw_g (lw_at lw_m1 30 rfl) rfl
theorem q1334 : (Jvm.Cond.instantiable "WasteHouse$BarredStores$Load" (6 : Nat)) ∈ lw_all := lw_g (lw_at lw_m4 222 rfl) rfl
theorem q1336 : (Jvm.Cond.instanceMethod ({ cls := "WasteHouse$BarredStores$Load", name := "<init>", desc := "()V" } : Jvm.MethodName)) ∈ lw_all := lw_g (lw_at lw_m4 224 rfl) rfl
theorem q1337 : (Jvm.Cond.code ({ cls := "WasteHouse$BarredStores$Load", name := "<init>", desc := "()V" } : Jvm.MethodName) prog_7_method_1_code (1 : Nat) (Option.none : Option Jvm.ClassFile.FieldType)) ∈ lw_all := lw_g (lw_at lw_m4 225 rfl) rfl
theorem q1338 : (Jvm.Cond.methodLink "WasteHouse$BarredStores$Load" (1 : Nat) ({ cls := "java/lang/Object", name := "<init>", desc := "()V" } : Jvm.MethodName)) ∈ lw_all := lw_g (lw_at lw_m4 226 rfl) rfl
theorem q1345 : (Jvm.Cond.lays "WasteHouse$BarredStores$Load" "WasteHouse$BarredStores$Load" "cls" "I") ∈ lw_all := lw_g (lw_at lw_m4 233 rfl) rfl
theorem q1346 : (Jvm.Cond.soleField "WasteHouse$BarredStores$Load" "cls") ∈ lw_all := lw_g (lw_at lw_m4 234 rfl) rfl
theorem q1347 : (Jvm.Cond.lays "WasteHouse$BarredStores$Load" "WasteHouse$BarredStores$Load" "grams" "J") ∈ lw_all := lw_g (lw_at lw_m4 235 rfl) rfl
theorem q1348 : (Jvm.Cond.soleField "WasteHouse$BarredStores$Load" "grams") ∈ lw_all := lw_g (lw_at lw_m4 236 rfl) rfl
theorem q1349 : (Jvm.Cond.lays "WasteHouse$BarredStores$Load" "WasteHouse$BarredStores$Load" "litres" "J") ∈ lw_all := lw_g (lw_at lw_m4 237 rfl) rfl
theorem q1350 : (Jvm.Cond.soleField "WasteHouse$BarredStores$Load" "litres") ∈ lw_all := lw_g (lw_at lw_m4 238 rfl) rfl
theorem q1351 : (Jvm.Cond.lays "WasteHouse$BarredStores$Load" "WasteHouse$BarredStores$Load" "at" "I") ∈ lw_all := lw_g (lw_at lw_m4 239 rfl) rfl
theorem q1352 : (Jvm.Cond.soleField "WasteHouse$BarredStores$Load" "at") ∈ lw_all := lw_g (lw_at lw_m5 0 rfl) rfl
theorem q1353 : (Jvm.Cond.lays "WasteHouse$BarredStores$Load" "WasteHouse$BarredStores$Load" "gone" "Z") ∈ lw_all := lw_g (lw_at lw_m5 1 rfl) rfl
theorem q1354 : (Jvm.Cond.soleField "WasteHouse$BarredStores$Load" "gone") ∈ lw_all := lw_g (lw_at lw_m5 2 rfl) rfl
theorem q1355 : (Jvm.Cond.lays "WasteHouse$BarredStores$Load" "WasteHouse$BarredStores$Load" "came" "I") ∈ lw_all := lw_g (lw_at lw_m5 3 rfl) rfl
theorem q1356 : (Jvm.Cond.soleField "WasteHouse$BarredStores$Load" "came") ∈ lw_all := lw_g (lw_at lw_m5 4 rfl) rfl
theorem q1357 : (Jvm.Cond.superclass "WasteHouse$BarredStores$Load" "java/lang/Object") ∈ lw_all := lw_g (lw_at lw_m5 5 rfl) rfl
theorem q1978 : (Jvm.Cond.selects "WasteHouse$BarredStores$Load" ({ cls := "java/lang/Object", name := "getClass", desc := "()Ljava/lang/Class;" } : Jvm.MethodName) ({ cls := "java/lang/Object", name := "getClass", desc := "()Ljava/lang/Class;" } : Jvm.MethodName)) ∈ lw_all := lw_g (lw_at lw_m7 146 rfl) rfl
theorem q3086 : (Jvm.Cond.selects "WasteHouse$BarredStores$Load" ({ cls := "java/lang/Object", name := "equals", desc := "(Ljava/lang/Object;)Z" } : Jvm.MethodName) ({ cls := "java/lang/Object", name := "equals", desc := "(Ljava/lang/Object;)Z" } : Jvm.MethodName)) ∈ lw_all := lw_g (lw_at lw_m12 54 rfl) rfl
theorem q3601 : (Jvm.Cond.selects "WasteHouse$BarredStores$Load" ({ cls := "java/lang/Object", name := "hashCode", desc := "()I" } : Jvm.MethodName) ({ cls := "java/lang/Object", name := "hashCode", desc := "()I" } : Jvm.MethodName)) ∈ lw_all := lw_g (lw_at lw_m14 89 rfl) rfl
theorem q9622 : (Jvm.Cond.castable "WasteHouse$BarredStores$Load" "java/lang/Object") ∈ lw_tbl := lw_at lw_m39 110 rfl
theorem in_X23 : ∀ w ∈ wsX230, w ∈ lw_all := lw_in wsX230 [1345, 1347, 1349, 1351, 1353, 1355] (by decide +kernel) (by decide +kernel)
