/-! java/util/HashSet -/
set_option maxRecDepth 100000
def RJ9 : String := "java/util/HashSet"
def TJ9 : u_T := fun k => match k with
  | _ => ("java/util/HashSet", "map", "Ljava/util/HashMap;", false)
def tyJ9 : Nat → FieldType := fun k => match k with
  | _ => .object "java/util/HashMap"
abbrev wsJ90 : List Cond := u_ws RJ9 TJ9 1
theorem nmJ9 : ∀ a, a < 1 → ∀ b, b < 1 → a ≠ b → (TJ9 a).2.1 ≠ (TJ9 b).2.1 := by decide +kernel
theorem tyJ9_ok : ∀ k, k < 1 → parseFieldDescriptor (TJ9 k).2.2.1 = some (tyJ9 k) := by decide +kernel
abbrev cJ9_init : ByteArray := prog_115_method_1_code
def yJ9_init : MethodName := ⟨RJ9, "<init>", "()V"⟩
def dkwJ9_init_0 : List UInt8 := [42, 183, 0, 1, 42, 187, 0, 7, 89, 183, 0, 9, 181, 0, 10, 177]
abbrev dktJ9_init_0 : List UInt8 := dkwJ9_init_0 ++ []
theorem dksJ9_init_0 : cJ9_init.data.toList.drop 0 = dktJ9_init_0 := by decide +kernel
theorem dJ9_init_0 : decode cJ9_init 0 = .ok (.aload_n 0, 1) := dk_42 (dk_at dksJ9_init_0 0 rfl rfl)
theorem dJ9_init_1 : decode cJ9_init 1 = .ok (.invokespecial 1, 3) := dk_183 0 1 (dk_at dksJ9_init_0 1 rfl rfl)
theorem dJ9_init_4 : decode cJ9_init 4 = .ok (.aload_n 0, 1) := dk_42 (dk_at dksJ9_init_0 4 rfl rfl)
theorem dJ9_init_5 : decode cJ9_init 5 = .ok (.new 7, 3) := dk_187 0 7 (dk_at dksJ9_init_0 5 rfl rfl)
theorem dJ9_init_8 : decode cJ9_init 8 = .ok (.dup, 1) := dk_89 (dk_at dksJ9_init_0 8 rfl rfl)
theorem dJ9_init_9 : decode cJ9_init 9 = .ok (.invokespecial 9, 3) := dk_183 0 9 (dk_at dksJ9_init_0 9 rfl rfl)
theorem dJ9_init_12 : decode cJ9_init 12 = .ok (.putfield 10, 3) := dk_181 0 10 (dk_at dksJ9_init_0 12 rfl rfl)
theorem dJ9_init_15 : decode cJ9_init 15 = .ok (.return_, 1) := dk_177 (dk_at dksJ9_init_0 15 rfl rfl)
abbrev cJ9_add : ByteArray := prog_115_method_10_code
def yJ9_add : MethodName := ⟨RJ9, "add", "(Ljava/lang/Object;)Z"⟩
def dkwJ9_add_0 : List UInt8 := [42, 180, 0, 10, 43, 178, 0, 64, 182, 0, 68, 199, 0, 7, 4, 167, 0, 4, 3, 172]
abbrev dktJ9_add_0 : List UInt8 := dkwJ9_add_0 ++ []
theorem dksJ9_add_0 : cJ9_add.data.toList.drop 0 = dktJ9_add_0 := by decide +kernel
theorem dJ9_add_0 : decode cJ9_add 0 = .ok (.aload_n 0, 1) := dk_42 (dk_at dksJ9_add_0 0 rfl rfl)
theorem dJ9_add_1 : decode cJ9_add 1 = .ok (.getfield 10, 3) := dk_180 0 10 (dk_at dksJ9_add_0 1 rfl rfl)
theorem dJ9_add_4 : decode cJ9_add 4 = .ok (.aload_n 1, 1) := dk_43 (dk_at dksJ9_add_0 4 rfl rfl)
theorem dJ9_add_5 : decode cJ9_add 5 = .ok (.getstatic 64, 3) := dk_178 0 64 (dk_at dksJ9_add_0 5 rfl rfl)
theorem dJ9_add_8 : decode cJ9_add 8 = .ok (.invokevirtual 68, 3) := dk_182 0 68 (dk_at dksJ9_add_0 8 rfl rfl)
theorem dJ9_add_11 : decode cJ9_add 11 = .ok (.ifnonnull 7, 3) := dk_199 0 7 (dk_at dksJ9_add_0 11 rfl rfl)
theorem dJ9_add_14 : decode cJ9_add 14 = .ok (.iconst 1, 1) := dk_4 (dk_at dksJ9_add_0 14 rfl rfl)
theorem dJ9_add_15 : decode cJ9_add 15 = .ok (.goto 4, 3) := dk_167 0 4 (dk_at dksJ9_add_0 15 rfl rfl)
theorem dJ9_add_18 : decode cJ9_add 18 = .ok (.iconst 0, 1) := dk_3 (dk_at dksJ9_add_0 18 rfl rfl)
theorem dJ9_add_19 : decode cJ9_add 19 = .ok (.ireturn, 1) := dk_172 (dk_at dksJ9_add_0 19 rfl rfl)
abbrev cJ9_iterator : ByteArray := prog_115_method_6_code
def yJ9_iterator : MethodName := ⟨RJ9, "iterator", "()Ljava/util/Iterator;"⟩
def dkwJ9_iterator_0 : List UInt8 := [42, 180, 0, 10, 182, 0, 45, 185, 0, 49, 1, 0, 176]
abbrev dktJ9_iterator_0 : List UInt8 := dkwJ9_iterator_0 ++ []
theorem dksJ9_iterator_0 : cJ9_iterator.data.toList.drop 0 = dktJ9_iterator_0 := by decide +kernel
theorem dJ9_iterator_0 : decode cJ9_iterator 0 = .ok (.aload_n 0, 1) := dk_42 (dk_at dksJ9_iterator_0 0 rfl rfl)
theorem dJ9_iterator_1 : decode cJ9_iterator 1 = .ok (.getfield 10, 3) := dk_180 0 10 (dk_at dksJ9_iterator_0 1 rfl rfl)
theorem dJ9_iterator_4 : decode cJ9_iterator 4 = .ok (.invokevirtual 45, 3) := dk_182 0 45 (dk_at dksJ9_iterator_0 4 rfl rfl)
theorem dJ9_iterator_7 : decode cJ9_iterator 7 = .ok (.invokeinterface 49 1, 5) := by decide +kernel
theorem dJ9_iterator_12 : decode cJ9_iterator 12 = .ok (.areturn, 1) := dk_176 (dk_at dksJ9_iterator_0 12 rfl rfl)
theorem q437 : (Jvm.Cond.initialized "java/util/HashSet") ∈ lw_all := lw_g (lw_at lw_m1 45 rfl) rfl
theorem q1816 : (Jvm.Cond.instantiable "java/util/HashSet" (1 : Nat)) ∈ lw_all := lw_g (lw_at lw_m6 224 rfl) rfl
theorem q1818 : (Jvm.Cond.instanceMethod ({ cls := "java/util/HashSet", name := "<init>", desc := "()V" } : Jvm.MethodName)) ∈ lw_all := lw_g (lw_at lw_m6 226 rfl) rfl
theorem q1819 : (Jvm.Cond.code ({ cls := "java/util/HashSet", name := "<init>", desc := "()V" } : Jvm.MethodName) prog_115_method_1_code (1 : Nat) (Option.none : Option Jvm.ClassFile.FieldType)) ∈ lw_all := lw_g (lw_at lw_m6 227 rfl) rfl
theorem q1820 : (Jvm.Cond.methodLink "java/util/HashSet" (1 : Nat) ({ cls := "java/util/AbstractSet", name := "<init>", desc := "()V" } : Jvm.MethodName)) ∈ lw_all := lw_g (lw_at lw_m6 228 rfl) rfl
theorem q1824 : (Jvm.Cond.classLink "java/util/HashSet" (7 : Nat) "java/util/HashMap") ∈ lw_all := lw_g (lw_at lw_m6 232 rfl) rfl
theorem q1826 : (Jvm.Cond.methodLink "java/util/HashSet" (9 : Nat) ({ cls := "java/util/HashMap", name := "<init>", desc := "()V" } : Jvm.MethodName)) ∈ lw_all := lw_g (lw_at lw_m6 234 rfl) rfl
theorem q1854 : (Jvm.Cond.fieldLink "java/util/HashSet" (10 : Nat) "java/util/HashSet" "map" "Ljava/util/HashMap;") ∈ lw_all := lw_g (lw_at lw_m7 22 rfl) rfl
theorem q1855 : (Jvm.Cond.lays "java/util/HashSet" "java/util/HashSet" "map" "Ljava/util/HashMap;") ∈ lw_all := lw_g (lw_at lw_m7 23 rfl) rfl
theorem q1856 : (Jvm.Cond.soleField "java/util/HashSet" "map") ∈ lw_all := lw_g (lw_at lw_m7 24 rfl) rfl
theorem q1857 : (Jvm.Cond.superclass "java/util/HashSet" "java/util/AbstractSet") ∈ lw_all := lw_g (lw_at lw_m7 25 rfl) rfl
theorem q2053 : (Jvm.Cond.selects "java/util/HashSet" ({ cls := "java/lang/Object", name := "getClass", desc := "()Ljava/lang/Class;" } : Jvm.MethodName) ({ cls := "java/lang/Object", name := "getClass", desc := "()Ljava/lang/Class;" } : Jvm.MethodName)) ∈ lw_all := lw_g (lw_at lw_m7 221 rfl) rfl
theorem q3579 : (Jvm.Cond.instanceMethod ({ cls := "java/util/HashSet", name := "add", desc := "(Ljava/lang/Object;)Z" } : Jvm.MethodName)) ∈ lw_all := lw_g (lw_at lw_m14 67 rfl) rfl
theorem q3580 : (Jvm.Cond.selects "java/util/HashSet" ({ cls := "java/util/HashSet", name := "add", desc := "(Ljava/lang/Object;)Z" } : Jvm.MethodName) ({ cls := "java/util/HashSet", name := "add", desc := "(Ljava/lang/Object;)Z" } : Jvm.MethodName)) ∈ lw_all := lw_g (lw_at lw_m14 68 rfl) rfl
theorem q3581 : (Jvm.Cond.code ({ cls := "java/util/HashSet", name := "add", desc := "(Ljava/lang/Object;)Z" } : Jvm.MethodName) prog_115_method_10_code (2 : Nat) (Option.some Jvm.ClassFile.FieldType.boolean)) ∈ lw_all := lw_g (lw_at lw_m14 69 rfl) rfl
theorem q3582 : (Jvm.Cond.fieldLink "java/util/HashSet" (64 : Nat) "java/util/HashSet" "PRESENT" "Ljava/lang/Object;") ∈ lw_all := lw_g (lw_at lw_m14 70 rfl) rfl
theorem q3583 : (Jvm.Cond.laysStatic "java/util/HashSet" "PRESENT" "Ljava/lang/Object;") ∈ lw_tbl := lw_at lw_m14 71 rfl
theorem q3584 : (Jvm.Cond.methodLink "java/util/HashSet" (68 : Nat) ({ cls := "java/util/HashMap", name := "put", desc := "(Ljava/lang/Object;Ljava/lang/Object;)Ljava/lang/Object;" } : Jvm.MethodName)) ∈ lw_all := lw_g (lw_at lw_m14 72 rfl) rfl
theorem q4424 : (Jvm.Cond.castable "java/util/HashSet" "java/util/Set") ∈ lw_tbl := lw_at lw_m17 192 rfl
theorem q4425 : (Jvm.Cond.selects "java/util/HashSet" ({ cls := "java/util/Set", name := "iterator", desc := "()Ljava/util/Iterator;" } : Jvm.MethodName) ({ cls := "java/util/HashSet", name := "iterator", desc := "()Ljava/util/Iterator;" } : Jvm.MethodName)) ∈ lw_all := lw_g (lw_at lw_m17 193 rfl) rfl
theorem q4426 : (Jvm.Cond.unhidden "java/util/HashSet" "iterator" "()Ljava/util/Iterator;") ∈ lw_tbl := lw_at lw_m17 194 rfl
theorem q4427 : (Jvm.Cond.instanceMethod ({ cls := "java/util/HashSet", name := "iterator", desc := "()Ljava/util/Iterator;" } : Jvm.MethodName)) ∈ lw_all := lw_g (lw_at lw_m17 195 rfl) rfl
theorem q4428 : (Jvm.Cond.publicMethod ({ cls := "java/util/HashSet", name := "iterator", desc := "()Ljava/util/Iterator;" } : Jvm.MethodName)) ∈ lw_tbl := lw_at lw_m17 196 rfl
theorem q4429 : (Jvm.Cond.code ({ cls := "java/util/HashSet", name := "iterator", desc := "()Ljava/util/Iterator;" } : Jvm.MethodName) prog_115_method_6_code (1 : Nat) (Option.some (Jvm.ClassFile.FieldType.object "java/util/Iterator"))) ∈ lw_all := lw_g (lw_at lw_m17 197 rfl) rfl
theorem q4430 : (Jvm.Cond.methodLink "java/util/HashSet" (45 : Nat) ({ cls := "java/util/HashMap", name := "keySet", desc := "()Ljava/util/Set;" } : Jvm.MethodName)) ∈ lw_all := lw_g (lw_at lw_m17 198 rfl) rfl
theorem q4444 : (Jvm.Cond.interfaceEntry "java/util/HashSet" (49 : Nat)) ∈ lw_tbl := lw_at lw_m17 212 rfl
theorem q4445 : (Jvm.Cond.methodLink "java/util/HashSet" (49 : Nat) ({ cls := "java/util/Set", name := "iterator", desc := "()Ljava/util/Iterator;" } : Jvm.MethodName)) ∈ lw_all := lw_g (lw_at lw_m17 213 rfl) rfl
theorem q4654 : (Jvm.Cond.sameMethod "java/util/HashSet" "java/util/AbstractCollection" "addAll" "(Ljava/util/Collection;)Z") ∈ lw_all := lw_g (lw_at lw_m18 182 rfl) rfl
theorem q4656 : (Jvm.Cond.selects "java/util/HashSet" ({ cls := "java/util/HashSet", name := "addAll", desc := "(Ljava/util/Collection;)Z" } : Jvm.MethodName) ({ cls := "java/util/AbstractCollection", name := "addAll", desc := "(Ljava/util/Collection;)Z" } : Jvm.MethodName)) ∈ lw_all := lw_g (lw_at lw_m18 184 rfl) rfl
theorem q4698 : (Jvm.Cond.castable "java/util/HashSet" "java/util/Collection") ∈ lw_tbl := lw_at lw_m18 226 rfl
theorem q4699 : (Jvm.Cond.selects "java/util/HashSet" ({ cls := "java/util/Collection", name := "iterator", desc := "()Ljava/util/Iterator;" } : Jvm.MethodName) ({ cls := "java/util/HashSet", name := "iterator", desc := "()Ljava/util/Iterator;" } : Jvm.MethodName)) ∈ lw_all := lw_g (lw_at lw_m18 227 rfl) rfl
theorem q4715 : (Jvm.Cond.selects "java/util/HashSet" ({ cls := "java/util/AbstractCollection", name := "add", desc := "(Ljava/lang/Object;)Z" } : Jvm.MethodName) ({ cls := "java/util/HashSet", name := "add", desc := "(Ljava/lang/Object;)Z" } : Jvm.MethodName)) ∈ lw_all := lw_g (lw_at lw_m19 3 rfl) rfl
theorem q9601 : (Jvm.Cond.selects "java/util/HashSet" ({ cls := "java/util/HashSet", name := "iterator", desc := "()Ljava/util/Iterator;" } : Jvm.MethodName) ({ cls := "java/util/HashSet", name := "iterator", desc := "()Ljava/util/Iterator;" } : Jvm.MethodName)) ∈ lw_all := lw_g (lw_at lw_m39 89 rfl) rfl
theorem q9658 : (Jvm.Cond.castable "java/util/HashSet" "java/lang/Object") ∈ lw_tbl := lw_at lw_m39 146 rfl
theorem in_J9 : ∀ w ∈ wsJ90, w ∈ lw_all := lw_in wsJ90 [1855] (by decide +kernel) (by decide +kernel)
