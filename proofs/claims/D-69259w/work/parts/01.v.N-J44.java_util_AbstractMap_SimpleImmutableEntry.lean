/-! java/util/AbstractMap$SimpleImmutableEntry -/
set_option maxRecDepth 100000
def RJ44 : String := "java/util/AbstractMap$SimpleImmutableEntry"
def TJ44 : u_T := fun k => match k with
  | 0 => ("java/util/AbstractMap$SimpleImmutableEntry", "key", "Ljava/lang/Object;", true)
  | _ => ("java/util/AbstractMap$SimpleImmutableEntry", "value", "Ljava/lang/Object;", true)
def tyJ44 : Nat → FieldType := fun k => match k with
  | 0 => .object "java/lang/Object"
  | _ => .object "java/lang/Object"
abbrev wsJ440 : List Cond := u_ws RJ44 TJ44 2
theorem nmJ44 : ∀ a, a < 2 → ∀ b, b < 2 → a ≠ b → (TJ44 a).2.1 ≠ (TJ44 b).2.1 := by decide +kernel
theorem tyJ44_ok : ∀ k, k < 2 → parseFieldDescriptor (TJ44 k).2.2.1 = some (tyJ44 k) := by decide +kernel
abbrev cJ44_getKey : ByteArray := prog_98_method_3_code
def yJ44_getKey : MethodName := ⟨RJ44, "getKey", "()Ljava/lang/Object;"⟩
theorem dJ44_getKey_0 : decode cJ44_getKey 0 = .ok (.aload_n 0, 1) := by decide +kernel
theorem dJ44_getKey_1 : decode cJ44_getKey 1 = .ok (.getfield 7, 3) := by decide +kernel
theorem dJ44_getKey_4 : decode cJ44_getKey 4 = .ok (.areturn, 1) := by decide +kernel
abbrev cJ44_getValue : ByteArray := prog_98_method_4_code
def yJ44_getValue : MethodName := ⟨RJ44, "getValue", "()Ljava/lang/Object;"⟩
theorem dJ44_getValue_0 : decode cJ44_getValue 0 = .ok (.aload_n 0, 1) := by decide +kernel
theorem dJ44_getValue_1 : decode cJ44_getValue 1 = .ok (.getfield 13, 3) := by decide +kernel
theorem dJ44_getValue_4 : decode cJ44_getValue 4 = .ok (.areturn, 1) := by decide +kernel
abbrev cJ44_init : ByteArray := prog_98_method_2_code
def yJ44_init : MethodName := ⟨RJ44, "<init>", "(Ljava/util/Map$Entry;)V"⟩
def dkwJ44_init_1 : List UInt8 := [177]
abbrev dktJ44_init_1 : List UInt8 := dkwJ44_init_1 ++ []
def dkwJ44_init_0 : List UInt8 := [42, 183, 0, 1, 42, 43, 185, 0, 16, 1, 0, 181, 0, 7, 42, 43, 185, 0, 22, 1, 0, 181, 0, 13]
abbrev dktJ44_init_0 : List UInt8 := dkwJ44_init_0 ++ dktJ44_init_1
theorem dksJ44_init_0 : cJ44_init.data.toList.drop 0 = dktJ44_init_0 := by decide +kernel
theorem dksJ44_init_1 : cJ44_init.data.toList.drop 24 = dktJ44_init_1 := dk_seg dksJ44_init_0 24 rfl rfl
theorem dJ44_init_0 : decode cJ44_init 0 = .ok (.aload_n 0, 1) := dk_42 (dk_at dksJ44_init_0 0 rfl rfl)
theorem dJ44_init_1 : decode cJ44_init 1 = .ok (.invokespecial 1, 3) := dk_183 0 1 (dk_at dksJ44_init_0 1 rfl rfl)
theorem dJ44_init_4 : decode cJ44_init 4 = .ok (.aload_n 0, 1) := dk_42 (dk_at dksJ44_init_0 4 rfl rfl)
theorem dJ44_init_5 : decode cJ44_init 5 = .ok (.aload_n 1, 1) := dk_43 (dk_at dksJ44_init_0 5 rfl rfl)
theorem dJ44_init_6 : decode cJ44_init 6 = .ok (.invokeinterface 16 1, 5) := by decide +kernel
theorem dJ44_init_11 : decode cJ44_init 11 = .ok (.putfield 7, 3) := dk_181 0 7 (dk_at dksJ44_init_0 11 rfl rfl)
theorem dJ44_init_14 : decode cJ44_init 14 = .ok (.aload_n 0, 1) := dk_42 (dk_at dksJ44_init_0 14 rfl rfl)
theorem dJ44_init_15 : decode cJ44_init 15 = .ok (.aload_n 1, 1) := dk_43 (dk_at dksJ44_init_0 15 rfl rfl)
theorem dJ44_init_16 : decode cJ44_init 16 = .ok (.invokeinterface 22 1, 5) := by decide +kernel
theorem dJ44_init_21 : decode cJ44_init 21 = .ok (.putfield 13, 3) := dk_181 0 13 (dk_at dksJ44_init_0 21 rfl rfl)
theorem dJ44_init_24 : decode cJ44_init 24 = .ok (.return_, 1) := dk_177 (dk_at dksJ44_init_1 0 rfl rfl)
theorem q503 : (Jvm.Cond.initialized "java/util/AbstractMap$SimpleImmutableEntry") ∈ lw_all := lw_g (lw_at lw_m1 111 rfl) rfl
theorem q2042 : (Jvm.Cond.selects "java/util/AbstractMap$SimpleImmutableEntry" ({ cls := "java/lang/Object", name := "getClass", desc := "()Ljava/lang/Class;" } : Jvm.MethodName) ({ cls := "java/lang/Object", name := "getClass", desc := "()Ljava/lang/Class;" } : Jvm.MethodName)) ∈ lw_all := lw_g (lw_at lw_m7 210 rfl) rfl
theorem q4487 : (Jvm.Cond.castable "java/util/AbstractMap$SimpleImmutableEntry" "java/util/Map$Entry") ∈ lw_tbl := lw_at lw_m18 15 rfl
theorem q4488 : (Jvm.Cond.selects "java/util/AbstractMap$SimpleImmutableEntry" ({ cls := "java/util/Map$Entry", name := "getKey", desc := "()Ljava/lang/Object;" } : Jvm.MethodName) ({ cls := "java/util/AbstractMap$SimpleImmutableEntry", name := "getKey", desc := "()Ljava/lang/Object;" } : Jvm.MethodName)) ∈ lw_all := lw_g (lw_at lw_m18 16 rfl) rfl
theorem q4489 : (Jvm.Cond.unhidden "java/util/AbstractMap$SimpleImmutableEntry" "getKey" "()Ljava/lang/Object;") ∈ lw_tbl := lw_at lw_m18 17 rfl
theorem q4490 : (Jvm.Cond.instanceMethod ({ cls := "java/util/AbstractMap$SimpleImmutableEntry", name := "getKey", desc := "()Ljava/lang/Object;" } : Jvm.MethodName)) ∈ lw_all := lw_g (lw_at lw_m18 18 rfl) rfl
theorem q4491 : (Jvm.Cond.publicMethod ({ cls := "java/util/AbstractMap$SimpleImmutableEntry", name := "getKey", desc := "()Ljava/lang/Object;" } : Jvm.MethodName)) ∈ lw_tbl := lw_at lw_m18 19 rfl
theorem q4492 : (Jvm.Cond.code ({ cls := "java/util/AbstractMap$SimpleImmutableEntry", name := "getKey", desc := "()Ljava/lang/Object;" } : Jvm.MethodName) prog_98_method_3_code (1 : Nat) (Option.some (Jvm.ClassFile.FieldType.object "java/lang/Object"))) ∈ lw_all := lw_g (lw_at lw_m18 20 rfl) rfl
theorem q4516 : (Jvm.Cond.selects "java/util/AbstractMap$SimpleImmutableEntry" ({ cls := "java/util/Map$Entry", name := "getValue", desc := "()Ljava/lang/Object;" } : Jvm.MethodName) ({ cls := "java/util/AbstractMap$SimpleImmutableEntry", name := "getValue", desc := "()Ljava/lang/Object;" } : Jvm.MethodName)) ∈ lw_all := lw_g (lw_at lw_m18 44 rfl) rfl
theorem q4517 : (Jvm.Cond.unhidden "java/util/AbstractMap$SimpleImmutableEntry" "getValue" "()Ljava/lang/Object;") ∈ lw_tbl := lw_at lw_m18 45 rfl
theorem q4518 : (Jvm.Cond.instanceMethod ({ cls := "java/util/AbstractMap$SimpleImmutableEntry", name := "getValue", desc := "()Ljava/lang/Object;" } : Jvm.MethodName)) ∈ lw_all := lw_g (lw_at lw_m18 46 rfl) rfl
theorem q4519 : (Jvm.Cond.publicMethod ({ cls := "java/util/AbstractMap$SimpleImmutableEntry", name := "getValue", desc := "()Ljava/lang/Object;" } : Jvm.MethodName)) ∈ lw_tbl := lw_at lw_m18 47 rfl
theorem q4520 : (Jvm.Cond.code ({ cls := "java/util/AbstractMap$SimpleImmutableEntry", name := "getValue", desc := "()Ljava/lang/Object;" } : Jvm.MethodName) prog_98_method_4_code (1 : Nat) (Option.some (Jvm.ClassFile.FieldType.object "java/lang/Object"))) ∈ lw_all := lw_g (lw_at lw_m18 48 rfl) rfl
theorem q5080 : (Jvm.Cond.instantiable "java/util/AbstractMap$SimpleImmutableEntry" (2 : Nat)) ∈ lw_all := lw_g (lw_at lw_m20 128 rfl) rfl
theorem q5082 : (Jvm.Cond.instanceMethod ({ cls := "java/util/AbstractMap$SimpleImmutableEntry", name := "<init>", desc := "(Ljava/util/Map$Entry;)V" } : Jvm.MethodName)) ∈ lw_all := lw_g (lw_at lw_m20 130 rfl) rfl
theorem q5083 : (Jvm.Cond.code ({ cls := "java/util/AbstractMap$SimpleImmutableEntry", name := "<init>", desc := "(Ljava/util/Map$Entry;)V" } : Jvm.MethodName) prog_98_method_2_code (2 : Nat) (Option.none : Option Jvm.ClassFile.FieldType)) ∈ lw_all := lw_g (lw_at lw_m20 131 rfl) rfl
theorem q5084 : (Jvm.Cond.methodLink "java/util/AbstractMap$SimpleImmutableEntry" (1 : Nat) ({ cls := "java/lang/Object", name := "<init>", desc := "()V" } : Jvm.MethodName)) ∈ lw_all := lw_g (lw_at lw_m20 132 rfl) rfl
theorem q5085 : (Jvm.Cond.interfaceEntry "java/util/AbstractMap$SimpleImmutableEntry" (16 : Nat)) ∈ lw_tbl := lw_at lw_m20 133 rfl
theorem q5086 : (Jvm.Cond.methodLink "java/util/AbstractMap$SimpleImmutableEntry" (16 : Nat) ({ cls := "java/util/Map$Entry", name := "getKey", desc := "()Ljava/lang/Object;" } : Jvm.MethodName)) ∈ lw_all := lw_g (lw_at lw_m20 134 rfl) rfl
theorem q5087 : (Jvm.Cond.interfaceEntry "java/util/AbstractMap$SimpleImmutableEntry" (22 : Nat)) ∈ lw_tbl := lw_at lw_m20 135 rfl
theorem q5088 : (Jvm.Cond.methodLink "java/util/AbstractMap$SimpleImmutableEntry" (22 : Nat) ({ cls := "java/util/Map$Entry", name := "getValue", desc := "()Ljava/lang/Object;" } : Jvm.MethodName)) ∈ lw_all := lw_g (lw_at lw_m20 136 rfl) rfl
theorem q5089 : (Jvm.Cond.fieldLink "java/util/AbstractMap$SimpleImmutableEntry" (7 : Nat) "java/util/AbstractMap$SimpleImmutableEntry" "key" "Ljava/lang/Object;") ∈ lw_all := lw_g (lw_at lw_m20 137 rfl) rfl
theorem q5090 : (Jvm.Cond.fieldLink "java/util/AbstractMap$SimpleImmutableEntry" (13 : Nat) "java/util/AbstractMap$SimpleImmutableEntry" "value" "Ljava/lang/Object;") ∈ lw_all := lw_g (lw_at lw_m20 138 rfl) rfl
theorem q5091 : (Jvm.Cond.laysFinal "java/util/AbstractMap$SimpleImmutableEntry" "java/util/AbstractMap$SimpleImmutableEntry" "key" "Ljava/lang/Object;") ∈ lw_all := lw_g (lw_at lw_m20 139 rfl) rfl
theorem q5092 : (Jvm.Cond.soleField "java/util/AbstractMap$SimpleImmutableEntry" "key") ∈ lw_all := lw_g (lw_at lw_m20 140 rfl) rfl
theorem q5093 : (Jvm.Cond.laysFinal "java/util/AbstractMap$SimpleImmutableEntry" "java/util/AbstractMap$SimpleImmutableEntry" "value" "Ljava/lang/Object;") ∈ lw_all := lw_g (lw_at lw_m20 141 rfl) rfl
theorem q5094 : (Jvm.Cond.soleField "java/util/AbstractMap$SimpleImmutableEntry" "value") ∈ lw_all := lw_g (lw_at lw_m20 142 rfl) rfl
theorem q5095 : (Jvm.Cond.superclass "java/util/AbstractMap$SimpleImmutableEntry" "java/lang/Object") ∈ lw_all := lw_g (lw_at lw_m20 143 rfl) rfl
theorem q9702 : (Jvm.Cond.castable "java/util/AbstractMap$SimpleImmutableEntry" "java/lang/Object") ∈ lw_tbl := lw_at lw_m39 190 rfl
theorem in_J44 : ∀ w ∈ wsJ440, w ∈ lw_all := lw_in wsJ440 [5091, 5093] (by decide +kernel) (by decide +kernel)
