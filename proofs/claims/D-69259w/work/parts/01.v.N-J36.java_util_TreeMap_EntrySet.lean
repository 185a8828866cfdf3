/-! java/util/TreeMap$EntrySet -/
set_option maxRecDepth 100000
def RJ36 : String := "java/util/TreeMap$EntrySet"
def TJ36 : u_T := fun k => match k with
  | _ => ("java/util/TreeMap$EntrySet", "this$0", "Ljava/util/TreeMap;", true)
def tyJ36 : Nat → FieldType := fun k => match k with
  | _ => .object "java/util/TreeMap"
abbrev wsJ360 : List Cond := u_ws RJ36 TJ36 1
theorem nmJ36 : ∀ a, a < 1 → ∀ b, b < 1 → a ≠ b → (TJ36 a).2.1 ≠ (TJ36 b).2.1 := by decide +kernel
theorem tyJ36_ok : ∀ k, k < 1 → parseFieldDescriptor (TJ36 k).2.2.1 = some (tyJ36 k) := by decide +kernel
abbrev cJ36_init : ByteArray := prog_132_method_1_code
def yJ36_init : MethodName := ⟨RJ36, "<init>", "(Ljava/util/TreeMap;)V"⟩
def dkwJ36_init_0 : List UInt8 := [42, 43, 181, 0, 1, 42, 183, 0, 7, 177]
abbrev dktJ36_init_0 : List UInt8 := dkwJ36_init_0 ++ []
theorem dksJ36_init_0 : cJ36_init.data.toList.drop 0 = dktJ36_init_0 := by decide +kernel
theorem dJ36_init_0 : decode cJ36_init 0 = .ok (.aload_n 0, 1) := dk_42 (dk_at dksJ36_init_0 0 rfl rfl)
theorem dJ36_init_1 : decode cJ36_init 1 = .ok (.aload_n 1, 1) := dk_43 (dk_at dksJ36_init_0 1 rfl rfl)
theorem dJ36_init_2 : decode cJ36_init 2 = .ok (.putfield 1, 3) := dk_181 0 1 (dk_at dksJ36_init_0 2 rfl rfl)
theorem dJ36_init_5 : decode cJ36_init 5 = .ok (.aload_n 0, 1) := dk_42 (dk_at dksJ36_init_0 5 rfl rfl)
theorem dJ36_init_6 : decode cJ36_init 6 = .ok (.invokespecial 7, 3) := dk_183 0 7 (dk_at dksJ36_init_0 6 rfl rfl)
theorem dJ36_init_9 : decode cJ36_init 9 = .ok (.return_, 1) := dk_177 (dk_at dksJ36_init_0 9 rfl rfl)
abbrev cJ36_iterator : ByteArray := prog_132_method_2_code
def yJ36_iterator : MethodName := ⟨RJ36, "iterator", "()Ljava/util/Iterator;"⟩
def dkwJ36_iterator_0 : List UInt8 := [187, 0, 13, 89, 42, 180, 0, 1, 42, 180, 0, 1, 182, 0, 15, 183, 0, 21, 176]
abbrev dktJ36_iterator_0 : List UInt8 := dkwJ36_iterator_0 ++ []
theorem dksJ36_iterator_0 : cJ36_iterator.data.toList.drop 0 = dktJ36_iterator_0 := by decide +kernel
theorem dJ36_iterator_0 : decode cJ36_iterator 0 = .ok (.new 13, 3) := dk_187 0 13 (dk_at dksJ36_iterator_0 0 rfl rfl)
theorem dJ36_iterator_3 : decode cJ36_iterator 3 = .ok (.dup, 1) := dk_89 (dk_at dksJ36_iterator_0 3 rfl rfl)
theorem dJ36_iterator_4 : decode cJ36_iterator 4 = .ok (.aload_n 0, 1) := dk_42 (dk_at dksJ36_iterator_0 4 rfl rfl)
theorem dJ36_iterator_5 : decode cJ36_iterator 5 = .ok (.getfield 1, 3) := dk_180 0 1 (dk_at dksJ36_iterator_0 5 rfl rfl)
theorem dJ36_iterator_8 : decode cJ36_iterator 8 = .ok (.aload_n 0, 1) := dk_42 (dk_at dksJ36_iterator_0 8 rfl rfl)
theorem dJ36_iterator_9 : decode cJ36_iterator 9 = .ok (.getfield 1, 3) := dk_180 0 1 (dk_at dksJ36_iterator_0 9 rfl rfl)
theorem dJ36_iterator_12 : decode cJ36_iterator 12 = .ok (.invokevirtual 15, 3) := dk_182 0 15 (dk_at dksJ36_iterator_0 12 rfl rfl)
theorem dJ36_iterator_15 : decode cJ36_iterator 15 = .ok (.invokespecial 21, 3) := dk_183 0 21 (dk_at dksJ36_iterator_0 15 rfl rfl)
theorem dJ36_iterator_18 : decode cJ36_iterator 18 = .ok (.areturn, 1) := dk_176 (dk_at dksJ36_iterator_0 18 rfl rfl)
theorem q494 : (Jvm.Cond.initialized "java/util/TreeMap$EntrySet") ∈ lw_all := lw_g (lw_at lw_m1 102 rfl) rfl
theorem q2057 : (Jvm.Cond.selects "java/util/TreeMap$EntrySet" ({ cls := "java/lang/Object", name := "getClass", desc := "()Ljava/lang/Class;" } : Jvm.MethodName) ({ cls := "java/lang/Object", name := "getClass", desc := "()Ljava/lang/Class;" } : Jvm.MethodName)) ∈ lw_all := lw_g (lw_at lw_m7 225 rfl) rfl
theorem q4380 : (Jvm.Cond.instantiable "java/util/TreeMap$EntrySet" (1 : Nat)) ∈ lw_all := lw_g (lw_at lw_m17 148 rfl) rfl
theorem q4382 : (Jvm.Cond.instanceMethod ({ cls := "java/util/TreeMap$EntrySet", name := "<init>", desc := "(Ljava/util/TreeMap;)V" } : Jvm.MethodName)) ∈ lw_all := lw_g (lw_at lw_m17 150 rfl) rfl
theorem q4383 : (Jvm.Cond.code ({ cls := "java/util/TreeMap$EntrySet", name := "<init>", desc := "(Ljava/util/TreeMap;)V" } : Jvm.MethodName) prog_132_method_1_code (2 : Nat) (Option.none : Option Jvm.ClassFile.FieldType)) ∈ lw_all := lw_g (lw_at lw_m17 151 rfl) rfl
theorem q4384 : (Jvm.Cond.methodLink "java/util/TreeMap$EntrySet" (7 : Nat) ({ cls := "java/util/AbstractSet", name := "<init>", desc := "()V" } : Jvm.MethodName)) ∈ lw_all := lw_g (lw_at lw_m17 152 rfl) rfl
theorem q4385 : (Jvm.Cond.fieldLink "java/util/TreeMap$EntrySet" (1 : Nat) "java/util/TreeMap$EntrySet" "this$0" "Ljava/util/TreeMap;") ∈ lw_all := lw_g (lw_at lw_m17 153 rfl) rfl
theorem q4386 : (Jvm.Cond.laysFinal "java/util/TreeMap$EntrySet" "java/util/TreeMap$EntrySet" "this$0" "Ljava/util/TreeMap;") ∈ lw_all := lw_g (lw_at lw_m17 154 rfl) rfl
theorem q4387 : (Jvm.Cond.soleField "java/util/TreeMap$EntrySet" "this$0") ∈ lw_all := lw_g (lw_at lw_m17 155 rfl) rfl
theorem q4388 : (Jvm.Cond.superclass "java/util/TreeMap$EntrySet" "java/util/AbstractSet") ∈ lw_all := lw_g (lw_at lw_m17 156 rfl) rfl
theorem q4446 : (Jvm.Cond.castable "java/util/TreeMap$EntrySet" "java/util/Set") ∈ lw_tbl := lw_at lw_m17 214 rfl
theorem q4447 : (Jvm.Cond.selects "java/util/TreeMap$EntrySet" ({ cls := "java/util/Set", name := "iterator", desc := "()Ljava/util/Iterator;" } : Jvm.MethodName) ({ cls := "java/util/TreeMap$EntrySet", name := "iterator", desc := "()Ljava/util/Iterator;" } : Jvm.MethodName)) ∈ lw_all := lw_g (lw_at lw_m17 215 rfl) rfl
theorem q4448 : (Jvm.Cond.unhidden "java/util/TreeMap$EntrySet" "iterator" "()Ljava/util/Iterator;") ∈ lw_tbl := lw_at lw_m17 216 rfl
theorem q4449 : (Jvm.Cond.instanceMethod ({ cls := "java/util/TreeMap$EntrySet", name := "iterator", desc := "()Ljava/util/Iterator;" } : Jvm.MethodName)) ∈ lw_all := lw_g (lw_at lw_m17 217 rfl) rfl
theorem q4450 : (Jvm.Cond.publicMethod ({ cls := "java/util/TreeMap$EntrySet", name := "iterator", desc := "()Ljava/util/Iterator;" } : Jvm.MethodName)) ∈ lw_tbl := lw_at lw_m17 218 rfl
theorem q4451 : (Jvm.Cond.code ({ cls := "java/util/TreeMap$EntrySet", name := "iterator", desc := "()Ljava/util/Iterator;" } : Jvm.MethodName) prog_132_method_2_code (1 : Nat) (Option.some (Jvm.ClassFile.FieldType.object "java/util/Iterator"))) ∈ lw_all := lw_g (lw_at lw_m17 219 rfl) rfl
theorem q4452 : (Jvm.Cond.classLink "java/util/TreeMap$EntrySet" (13 : Nat) "java/util/TreeMap$EntryIterator") ∈ lw_all := lw_g (lw_at lw_m17 220 rfl) rfl
theorem q4454 : (Jvm.Cond.methodLink "java/util/TreeMap$EntrySet" (15 : Nat) ({ cls := "java/util/TreeMap", name := "getFirstEntry", desc := "()Ljava/util/TreeMap$Entry;" } : Jvm.MethodName)) ∈ lw_all := lw_g (lw_at lw_m17 222 rfl) rfl
theorem q4458 : (Jvm.Cond.methodLink "java/util/TreeMap$EntrySet" (21 : Nat) ({ cls := "java/util/TreeMap$EntryIterator", name := "<init>", desc := "(Ljava/util/TreeMap;Ljava/util/TreeMap$Entry;)V" } : Jvm.MethodName)) ∈ lw_all := lw_g (lw_at lw_m17 226 rfl) rfl
theorem q4700 : (Jvm.Cond.castable "java/util/TreeMap$EntrySet" "java/util/Collection") ∈ lw_tbl := lw_at lw_m18 228 rfl
theorem q4701 : (Jvm.Cond.selects "java/util/TreeMap$EntrySet" ({ cls := "java/util/Collection", name := "iterator", desc := "()Ljava/util/Iterator;" } : Jvm.MethodName) ({ cls := "java/util/TreeMap$EntrySet", name := "iterator", desc := "()Ljava/util/Iterator;" } : Jvm.MethodName)) ∈ lw_all := lw_g (lw_at lw_m18 229 rfl) rfl
theorem q4716 : (Jvm.Cond.selects "java/util/TreeMap$EntrySet" ({ cls := "java/util/AbstractCollection", name := "add", desc := "(Ljava/lang/Object;)Z" } : Jvm.MethodName) ({ cls := "java/util/AbstractCollection", name := "add", desc := "(Ljava/lang/Object;)Z" } : Jvm.MethodName)) ∈ lw_all := lw_g (lw_at lw_m19 4 rfl) rfl
theorem q9695 : (Jvm.Cond.castable "java/util/TreeMap$EntrySet" "java/lang/Object") ∈ lw_tbl := lw_at lw_m39 183 rfl
theorem in_J36 : ∀ w ∈ wsJ360, w ∈ lw_all := lw_in wsJ360 [4386] (by decide +kernel) (by decide +kernel)
