/-! WasteHouse$BarredStores$Place -/
set_option maxRecDepth 100000
def RX22 : String := "WasteHouse$BarredStores$Place"
def TX22 : u_T := fun k => match k with
  | 0 => ("WasteHouse$BarredStores$Place", "x", "I", false)
  | 1 => ("WasteHouse$BarredStores$Place", "y", "I", false)
  | 2 => ("WasteHouse$BarredStores$Place", "basin", "I", false)
  | 3 => ("WasteHouse$BarredStores$Place", "keys", "I", false)
  | _ => ("WasteHouse$BarredStores$Place", "inspected", "I", false)
def tyX22 : Nat → FieldType := fun k => match k with
  | 0 => .int
  | 1 => .int
  | 2 => .int
  | 3 => .int
  | _ => .int
abbrev wsX220 : List Cond := u_ws RX22 TX22 5
theorem nmX22 : ∀ a, a < 5 → ∀ b, b < 5 → a ≠ b → (TX22 a).2.1 ≠ (TX22 b).2.1 := by decide +kernel
theorem tyX22_ok : ∀ k, k < 5 → parseFieldDescriptor (TX22 k).2.2.1 = some (tyX22 k) := by decide +kernel
abbrev cX22_init : ByteArray := prog_8_method_1_code
def yX22_init : MethodName := ⟨RX22, "<init>", "()V"⟩
def dkwX22_init_0 : List UInt8 := [42, 183, 0, 3, 42, 2, 181, 0, 9, 177]
abbrev dktX22_init_0 : List UInt8 := dkwX22_init_0 ++ []
theorem dksX22_init_0 : cX22_init.data.toList.drop 0 = dktX22_init_0 := by decide +kernel
theorem dX22_init_0 : decode cX22_init 0 = .ok (.aload_n 0, 1) := dk_42 (dk_at dksX22_init_0 0 rfl rfl)
theorem dX22_init_1 : decode cX22_init 1 = .ok (.invokespecial 3, 3) := dk_183 0 3 (dk_at dksX22_init_0 1 rfl rfl)
theorem dX22_init_4 : decode cX22_init 4 = .ok (.aload_n 0, 1) := dk_42 (dk_at dksX22_init_0 4 rfl rfl)
theorem dX22_init_5 : decode cX22_init 5 = .ok (.iconst (-1), 1) := dk_2 (dk_at dksX22_init_0 5 rfl rfl)
theorem dX22_init_6 : decode cX22_init 6 = .ok (.putfield 9, 3) := dk_181 0 9 (dk_at dksX22_init_0 6 rfl rfl)
theorem dX22_init_9 : decode cX22_init 9 = .ok (.return_, 1) := dk_177 (dk_at dksX22_init_0 9 rfl rfl)
abbrev cX22_away : ByteArray := prog_8_method_2_code
def yX22_away : MethodName := ⟨RX22, "away", "(LWasteHouse$BarredStores$Place;)I"⟩
def dkwX22_away_1 : List UInt8 := [180, 0, 18, 100, 42, 180, 0, 18, 43, 180, 0, 18, 100, 104, 96, 172]
abbrev dktX22_away_1 : List UInt8 := dkwX22_away_1 ++ []
def dkwX22_away_0 : List UInt8 := [42, 180, 0, 15, 43, 180, 0, 15, 100, 42, 180, 0, 15, 43, 180, 0, 15, 100, 104, 42, 180, 0, 18, 43]
abbrev dktX22_away_0 : List UInt8 := dkwX22_away_0 ++ dktX22_away_1
theorem dksX22_away_0 : cX22_away.data.toList.drop 0 = dktX22_away_0 := by decide +kernel
theorem dksX22_away_1 : cX22_away.data.toList.drop 24 = dktX22_away_1 := dk_seg dksX22_away_0 24 rfl rfl
theorem dX22_away_0 : decode cX22_away 0 = .ok (.aload_n 0, 1) := dk_42 (dk_at dksX22_away_0 0 rfl rfl)
theorem dX22_away_1 : decode cX22_away 1 = .ok (.getfield 15, 3) := dk_180 0 15 (dk_at dksX22_away_0 1 rfl rfl)
theorem dX22_away_4 : decode cX22_away 4 = .ok (.aload_n 1, 1) := dk_43 (dk_at dksX22_away_0 4 rfl rfl)
theorem dX22_away_5 : decode cX22_away 5 = .ok (.getfield 15, 3) := dk_180 0 15 (dk_at dksX22_away_0 5 rfl rfl)
theorem dX22_away_8 : decode cX22_away 8 = .ok (.isub, 1) := dk_100 (dk_at dksX22_away_0 8 rfl rfl)
theorem dX22_away_9 : decode cX22_away 9 = .ok (.aload_n 0, 1) := dk_42 (dk_at dksX22_away_0 9 rfl rfl)
theorem dX22_away_10 : decode cX22_away 10 = .ok (.getfield 15, 3) := dk_180 0 15 (dk_at dksX22_away_0 10 rfl rfl)
theorem dX22_away_13 : decode cX22_away 13 = .ok (.aload_n 1, 1) := dk_43 (dk_at dksX22_away_0 13 rfl rfl)
theorem dX22_away_14 : decode cX22_away 14 = .ok (.getfield 15, 3) := dk_180 0 15 (dk_at dksX22_away_0 14 rfl rfl)
theorem dX22_away_17 : decode cX22_away 17 = .ok (.isub, 1) := dk_100 (dk_at dksX22_away_0 17 rfl rfl)
theorem dX22_away_18 : decode cX22_away 18 = .ok (.imul, 1) := dk_104 (dk_at dksX22_away_0 18 rfl rfl)
theorem dX22_away_19 : decode cX22_away 19 = .ok (.aload_n 0, 1) := dk_42 (dk_at dksX22_away_0 19 rfl rfl)
theorem dX22_away_20 : decode cX22_away 20 = .ok (.getfield 18, 3) := dk_180 0 18 (dk_at dksX22_away_0 20 rfl rfl)
theorem dX22_away_23 : decode cX22_away 23 = .ok (.aload_n 1, 1) := dk_43 (dk_at dksX22_away_0 23 rfl rfl)
theorem dX22_away_24 : decode cX22_away 24 = .ok (.getfield 18, 3) := dk_180 0 18 (dk_at dksX22_away_1 0 rfl rfl)
theorem dX22_away_27 : decode cX22_away 27 = .ok (.isub, 1) := dk_100 (dk_at dksX22_away_1 3 rfl rfl)
theorem dX22_away_28 : decode cX22_away 28 = .ok (.aload_n 0, 1) := dk_42 (dk_at dksX22_away_1 4 rfl rfl)
theorem dX22_away_29 : decode cX22_away 29 = .ok (.getfield 18, 3) := dk_180 0 18 (dk_at dksX22_away_1 5 rfl rfl)
theorem dX22_away_32 : decode cX22_away 32 = .ok (.aload_n 1, 1) := dk_43 (dk_at dksX22_away_1 8 rfl rfl)
theorem dX22_away_33 : decode cX22_away 33 = .ok (.getfield 18, 3) := dk_180 0 18 (dk_at dksX22_away_1 9 rfl rfl)
theorem dX22_away_36 : decode cX22_away 36 = .ok (.isub, 1) := dk_100 (dk_at dksX22_away_1 12 rfl rfl)
theorem dX22_away_37 : decode cX22_away 37 = .ok (.imul, 1) := dk_104 (dk_at dksX22_away_1 13 rfl rfl)
theorem dX22_away_38 : decode cX22_away 38 = .ok (.iadd, 1) := dk_96 (dk_at dksX22_away_1 14 rfl rfl)
theorem dX22_away_39 : decode cX22_away 39 = .ok (.ireturn, 1) := dk_172 (dk_at dksX22_away_1 15 rfl rfl)
theorem q421 : (Jvm.Cond.initialized "WasteHouse$BarredStores$Place") ∈ lw_all := lw_g (lw_at lw_m1 29 rfl) rfl
theorem q1309 : (Jvm.Cond.instantiable "WasteHouse$BarredStores$Place" (5 : Nat)) ∈ lw_all := lw_g (lw_at lw_m4 197 rfl) rfl
theorem q1311 : (Jvm.Cond.instanceMethod ({ cls := "WasteHouse$BarredStores$Place", name := "<init>", desc := "()V" } : Jvm.MethodName)) ∈ lw_all := lw_g (lw_at lw_m4 199 rfl) rfl
theorem q1312 : (Jvm.Cond.code ({ cls := "WasteHouse$BarredStores$Place", name := "<init>", desc := "()V" } : Jvm.MethodName) prog_8_method_1_code (1 : Nat) (Option.none : Option Jvm.ClassFile.FieldType)) ∈ lw_all := lw_g (lw_at lw_m4 200 rfl) rfl
theorem q1313 : (Jvm.Cond.methodLink "WasteHouse$BarredStores$Place" (3 : Nat) ({ cls := "java/lang/Object", name := "<init>", desc := "()V" } : Jvm.MethodName)) ∈ lw_all := lw_g (lw_at lw_m4 201 rfl) rfl
theorem q1314 : (Jvm.Cond.fieldLink "WasteHouse$BarredStores$Place" (15 : Nat) "WasteHouse$BarredStores$Place" "x" "I") ∈ lw_all := lw_g (lw_at lw_m4 202 rfl) rfl
theorem q1316 : (Jvm.Cond.fieldLink "WasteHouse$BarredStores$Place" (18 : Nat) "WasteHouse$BarredStores$Place" "y" "I") ∈ lw_all := lw_g (lw_at lw_m4 204 rfl) rfl
theorem q1320 : (Jvm.Cond.fieldLink "WasteHouse$BarredStores$Place" (9 : Nat) "WasteHouse$BarredStores$Place" "inspected" "I") ∈ lw_all := lw_g (lw_at lw_m4 208 rfl) rfl
theorem q1322 : (Jvm.Cond.lays "WasteHouse$BarredStores$Place" "WasteHouse$BarredStores$Place" "x" "I") ∈ lw_all := lw_g (lw_at lw_m4 210 rfl) rfl
theorem q1323 : (Jvm.Cond.soleField "WasteHouse$BarredStores$Place" "x") ∈ lw_all := lw_g (lw_at lw_m4 211 rfl) rfl
theorem q1324 : (Jvm.Cond.lays "WasteHouse$BarredStores$Place" "WasteHouse$BarredStores$Place" "y" "I") ∈ lw_all := lw_g (lw_at lw_m4 212 rfl) rfl
theorem q1325 : (Jvm.Cond.soleField "WasteHouse$BarredStores$Place" "y") ∈ lw_all := lw_g (lw_at lw_m4 213 rfl) rfl
theorem q1326 : (Jvm.Cond.lays "WasteHouse$BarredStores$Place" "WasteHouse$BarredStores$Place" "basin" "I") ∈ lw_all := lw_g (lw_at lw_m4 214 rfl) rfl
theorem q1327 : (Jvm.Cond.soleField "WasteHouse$BarredStores$Place" "basin") ∈ lw_all := lw_g (lw_at lw_m4 215 rfl) rfl
theorem q1328 : (Jvm.Cond.lays "WasteHouse$BarredStores$Place" "WasteHouse$BarredStores$Place" "keys" "I") ∈ lw_all := lw_g (lw_at lw_m4 216 rfl) rfl
theorem q1329 : (Jvm.Cond.soleField "WasteHouse$BarredStores$Place" "keys") ∈ lw_all := lw_g (lw_at lw_m4 217 rfl) rfl
theorem q1330 : (Jvm.Cond.lays "WasteHouse$BarredStores$Place" "WasteHouse$BarredStores$Place" "inspected" "I") ∈ lw_all := lw_g (lw_at lw_m4 218 rfl) rfl
theorem q1331 : (Jvm.Cond.soleField "WasteHouse$BarredStores$Place" "inspected") ∈ lw_all := lw_g (lw_at lw_m4 219 rfl) rfl
theorem q1332 : (Jvm.Cond.superclass "WasteHouse$BarredStores$Place" "java/lang/Object") ∈ lw_all := lw_g (lw_at lw_m4 220 rfl) rfl
theorem q1979 : (Jvm.Cond.selects "WasteHouse$BarredStores$Place" ({ cls := "java/lang/Object", name := "getClass", desc := "()Ljava/lang/Class;" } : Jvm.MethodName) ({ cls := "java/lang/Object", name := "getClass", desc := "()Ljava/lang/Class;" } : Jvm.MethodName)) ∈ lw_all := lw_g (lw_at lw_m7 147 rfl) rfl
theorem q3087 : (Jvm.Cond.selects "WasteHouse$BarredStores$Place" ({ cls := "java/lang/Object", name := "equals", desc := "(Ljava/lang/Object;)Z" } : Jvm.MethodName) ({ cls := "java/lang/Object", name := "equals", desc := "(Ljava/lang/Object;)Z" } : Jvm.MethodName)) ∈ lw_all := lw_g (lw_at lw_m12 55 rfl) rfl
theorem q3602 : (Jvm.Cond.selects "WasteHouse$BarredStores$Place" ({ cls := "java/lang/Object", name := "hashCode", desc := "()I" } : Jvm.MethodName) ({ cls := "java/lang/Object", name := "hashCode", desc := "()I" } : Jvm.MethodName)) ∈ lw_all := lw_g (lw_at lw_m14 90 rfl) rfl
theorem q5543 : (Jvm.Cond.instanceMethod ({ cls := "WasteHouse$BarredStores$Place", name := "away", desc := "(LWasteHouse$BarredStores$Place;)I" } : Jvm.MethodName)) ∈ lw_all := lw_g (lw_at lw_m22 111 rfl) rfl
theorem q5544 : (Jvm.Cond.selects "WasteHouse$BarredStores$Place" ({ cls := "WasteHouse$BarredStores$Place", name := "away", desc := "(LWasteHouse$BarredStores$Place;)I" } : Jvm.MethodName) ({ cls := "WasteHouse$BarredStores$Place", name := "away", desc := "(LWasteHouse$BarredStores$Place;)I" } : Jvm.MethodName)) ∈ lw_all := lw_g (lw_at lw_m22 112 rfl) rfl
theorem q5545 : (Jvm.Cond.code ({ cls := "WasteHouse$BarredStores$Place", name := "away", desc := "(LWasteHouse$BarredStores$Place;)I" } : Jvm.MethodName) prog_8_method_2_code (2 : Nat) (Option.some Jvm.ClassFile.FieldType.int)) ∈ lw_all := lw_g (lw_at lw_m22 113 rfl) rfl
theorem q9621 : (Jvm.Cond.castable "WasteHouse$BarredStores$Place" "java/lang/Object") ∈ lw_tbl := lw_at lw_m39 109 rfl
theorem in_X22 : ∀ w ∈ wsX220, w ∈ lw_all := lw_in wsX220 [1322, 1324, 1326, 1328, 1330] (by decide +kernel) (by decide +kernel)
