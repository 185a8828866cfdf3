/-! java/util/TreeMap$EntryIterator -/
set_option maxRecDepth 100000
def RJ41 : String := "java/util/TreeMap$EntryIterator"
def TJ41 : u_T := fun k => match k with
  | 0 => ("java/util/TreeMap$PrivateEntryIterator", "next", "Ljava/util/TreeMap$Entry;", false)
  | 1 => ("java/util/TreeMap$PrivateEntryIterator", "lastReturned", "Ljava/util/TreeMap$Entry;", false)
  | 2 => ("java/util/TreeMap$PrivateEntryIterator", "expectedModCount", "I", false)
  | _ => ("java/util/TreeMap$PrivateEntryIterator", "this$0", "Ljava/util/TreeMap;", true)
def tyJ41 : Nat → FieldType := fun k => match k with
  | 0 => .object "java/util/TreeMap$Entry"
  | 1 => .object "java/util/TreeMap$Entry"
  | 2 => .int
  | _ => .object "java/util/TreeMap"
abbrev wsJ410 : List Cond := u_ws RJ41 TJ41 4
theorem nmJ41 : ∀ a, a < 4 → ∀ b, b < 4 → a ≠ b → (TJ41 a).2.1 ≠ (TJ41 b).2.1 := by decide +kernel
theorem tyJ41_ok : ∀ k, k < 4 → parseFieldDescriptor (TJ41 k).2.2.1 = some (tyJ41 k) := by decide +kernel
abbrev cJ41_next : ByteArray := prog_131_method_3_code
def yJ41_next : MethodName := ⟨RJ41, "next", "()Ljava/lang/Object;"⟩
theorem dJ41_next_0 : decode cJ41_next 0 = .ok (.aload_n 0, 1) := by decide +kernel
theorem dJ41_next_1 : decode cJ41_next 1 = .ok (.invokevirtual 13, 3) := by decide +kernel
theorem dJ41_next_4 : decode cJ41_next 4 = .ok (.areturn, 1) := by decide +kernel
abbrev cJ41_next_2 : ByteArray := prog_131_method_2_code
def yJ41_next_2 : MethodName := ⟨RJ41, "next", "()Ljava/util/Map$Entry;"⟩
theorem dJ41_next_2_0 : decode cJ41_next_2 0 = .ok (.aload_n 0, 1) := by decide +kernel
theorem dJ41_next_2_1 : decode cJ41_next_2 1 = .ok (.invokevirtual 7, 3) := by decide +kernel
theorem dJ41_next_2_4 : decode cJ41_next_2 4 = .ok (.areturn, 1) := by decide +kernel
abbrev cJ41_init : ByteArray := prog_131_method_1_code
def yJ41_init : MethodName := ⟨RJ41, "<init>", "(Ljava/util/TreeMap;Ljava/util/TreeMap$Entry;)V"⟩
def dkwJ41_init_0 : List UInt8 := [42, 43, 44, 183, 0, 1, 177]
abbrev dktJ41_init_0 : List UInt8 := dkwJ41_init_0 ++ []
theorem dksJ41_init_0 : cJ41_init.data.toList.drop 0 = dktJ41_init_0 := by decide +kernel
theorem dJ41_init_0 : decode cJ41_init 0 = .ok (.aload_n 0, 1) := dk_42 (dk_at dksJ41_init_0 0 rfl rfl)
theorem dJ41_init_1 : decode cJ41_init 1 = .ok (.aload_n 1, 1) := dk_43 (dk_at dksJ41_init_0 1 rfl rfl)
theorem dJ41_init_2 : decode cJ41_init 2 = .ok (.aload_n 2, 1) := dk_44 (dk_at dksJ41_init_0 2 rfl rfl)
theorem dJ41_init_3 : decode cJ41_init 3 = .ok (.invokespecial 1, 3) := dk_183 0 1 (dk_at dksJ41_init_0 3 rfl rfl)
theorem dJ41_init_6 : decode cJ41_init 6 = .ok (.return_, 1) := dk_177 (dk_at dksJ41_init_0 6 rfl rfl)
theorem q499 : (Jvm.Cond.initialized "java/util/TreeMap$EntryIterator") ∈ lw_all := lw_g (lw_at lw_m1 107 rfl) rfl
theorem q2056 : (Jvm.Cond.selects "java/util/TreeMap$EntryIterator" ({ cls := "java/lang/Object", name := "getClass", desc := "()Ljava/lang/Class;" } : Jvm.MethodName) ({ cls := "java/lang/Object", name := "getClass", desc := "()Ljava/lang/Class;" } : Jvm.MethodName)) ∈ lw_all := lw_g (lw_at lw_m7 224 rfl) rfl
theorem q2986 : (Jvm.Cond.castable "java/util/TreeMap$EntryIterator" "java/util/Iterator") ∈ lw_tbl := lw_at lw_m11 194 rfl
theorem q2987 : (Jvm.Cond.selects "java/util/TreeMap$EntryIterator" ({ cls := "java/util/Iterator", name := "hasNext", desc := "()Z" } : Jvm.MethodName) ({ cls := "java/util/TreeMap$PrivateEntryIterator", name := "hasNext", desc := "()Z" } : Jvm.MethodName)) ∈ lw_all := lw_g (lw_at lw_m11 195 rfl) rfl
theorem q2988 : (Jvm.Cond.unhidden "java/util/TreeMap$EntryIterator" "hasNext" "()Z") ∈ lw_tbl := lw_at lw_m11 196 rfl
theorem q3027 : (Jvm.Cond.selects "java/util/TreeMap$EntryIterator" ({ cls := "java/util/Iterator", name := "next", desc := "()Ljava/lang/Object;" } : Jvm.MethodName) ({ cls := "java/util/TreeMap$EntryIterator", name := "next", desc := "()Ljava/lang/Object;" } : Jvm.MethodName)) ∈ lw_all := lw_g (lw_at lw_m11 235 rfl) rfl
theorem q3028 : (Jvm.Cond.unhidden "java/util/TreeMap$EntryIterator" "next" "()Ljava/lang/Object;") ∈ lw_tbl := lw_at lw_m11 236 rfl
theorem q3029 : (Jvm.Cond.instanceMethod ({ cls := "java/util/TreeMap$EntryIterator", name := "next", desc := "()Ljava/lang/Object;" } : Jvm.MethodName)) ∈ lw_all := lw_g (lw_at lw_m11 237 rfl) rfl
theorem q3030 : (Jvm.Cond.publicMethod ({ cls := "java/util/TreeMap$EntryIterator", name := "next", desc := "()Ljava/lang/Object;" } : Jvm.MethodName)) ∈ lw_tbl := lw_at lw_m11 238 rfl
theorem q3031 : (Jvm.Cond.code ({ cls := "java/util/TreeMap$EntryIterator", name := "next", desc := "()Ljava/lang/Object;" } : Jvm.MethodName) prog_131_method_3_code (1 : Nat) (Option.some (Jvm.ClassFile.FieldType.object "java/lang/Object"))) ∈ lw_all := lw_g (lw_at lw_m11 239 rfl) rfl
theorem q3032 : (Jvm.Cond.methodLink "java/util/TreeMap$EntryIterator" (13 : Nat) ({ cls := "java/util/TreeMap$EntryIterator", name := "next", desc := "()Ljava/util/Map$Entry;" } : Jvm.MethodName)) ∈ lw_all := lw_g (lw_at lw_m12 0 rfl) rfl
theorem q3033 : (Jvm.Cond.instanceMethod ({ cls := "java/util/TreeMap$EntryIterator", name := "next", desc := "()Ljava/util/Map$Entry;" } : Jvm.MethodName)) ∈ lw_all := lw_g (lw_at lw_m12 1 rfl) rfl
theorem q3034 : (Jvm.Cond.selects "java/util/TreeMap$EntryIterator" ({ cls := "java/util/TreeMap$EntryIterator", name := "next", desc := "()Ljava/util/Map$Entry;" } : Jvm.MethodName) ({ cls := "java/util/TreeMap$EntryIterator", name := "next", desc := "()Ljava/util/Map$Entry;" } : Jvm.MethodName)) ∈ lw_all := lw_g (lw_at lw_m12 2 rfl) rfl
theorem q3035 : (Jvm.Cond.code ({ cls := "java/util/TreeMap$EntryIterator", name := "next", desc := "()Ljava/util/Map$Entry;" } : Jvm.MethodName) prog_131_method_2_code (1 : Nat) (Option.some (Jvm.ClassFile.FieldType.object "java/util/Map$Entry"))) ∈ lw_all := lw_g (lw_at lw_m12 3 rfl) rfl
theorem q3036 : (Jvm.Cond.methodLink "java/util/TreeMap$EntryIterator" (7 : Nat) ({ cls := "java/util/TreeMap$EntryIterator", name := "nextEntry", desc := "()Ljava/util/TreeMap$Entry;" } : Jvm.MethodName)) ∈ lw_all := lw_g (lw_at lw_m12 4 rfl) rfl
theorem q3037 : (Jvm.Cond.sameMethod "java/util/TreeMap$EntryIterator" "java/util/TreeMap$PrivateEntryIterator" "nextEntry" "()Ljava/util/TreeMap$Entry;") ∈ lw_all := lw_g (lw_at lw_m12 5 rfl) rfl
theorem q3039 : (Jvm.Cond.selects "java/util/TreeMap$EntryIterator" ({ cls := "java/util/TreeMap$EntryIterator", name := "nextEntry", desc := "()Ljava/util/TreeMap$Entry;" } : Jvm.MethodName) ({ cls := "java/util/TreeMap$PrivateEntryIterator", name := "nextEntry", desc := "()Ljava/util/TreeMap$Entry;" } : Jvm.MethodName)) ∈ lw_all := lw_g (lw_at lw_m12 7 rfl) rfl
theorem q4453 : (Jvm.Cond.instantiable "java/util/TreeMap$EntryIterator" (4 : Nat)) ∈ lw_all := lw_g (lw_at lw_m17 221 rfl) rfl
theorem q4459 : (Jvm.Cond.instanceMethod ({ cls := "java/util/TreeMap$EntryIterator", name := "<init>", desc := "(Ljava/util/TreeMap;Ljava/util/TreeMap$Entry;)V" } : Jvm.MethodName)) ∈ lw_all := lw_g (lw_at lw_m17 227 rfl) rfl
theorem q4460 : (Jvm.Cond.code ({ cls := "java/util/TreeMap$EntryIterator", name := "<init>", desc := "(Ljava/util/TreeMap;Ljava/util/TreeMap$Entry;)V" } : Jvm.MethodName) prog_131_method_1_code (3 : Nat) (Option.none : Option Jvm.ClassFile.FieldType)) ∈ lw_all := lw_g (lw_at lw_m17 228 rfl) rfl
theorem q4461 : (Jvm.Cond.methodLink "java/util/TreeMap$EntryIterator" (1 : Nat) ({ cls := "java/util/TreeMap$PrivateEntryIterator", name := "<init>", desc := "(Ljava/util/TreeMap;Ljava/util/TreeMap$Entry;)V" } : Jvm.MethodName)) ∈ lw_all := lw_g (lw_at lw_m17 229 rfl) rfl
theorem q4469 : (Jvm.Cond.lays "java/util/TreeMap$EntryIterator" "java/util/TreeMap$PrivateEntryIterator" "next" "Ljava/util/TreeMap$Entry;") ∈ lw_all := lw_g (lw_at lw_m17 237 rfl) rfl
theorem q4471 : (Jvm.Cond.lays "java/util/TreeMap$EntryIterator" "java/util/TreeMap$PrivateEntryIterator" "lastReturned" "Ljava/util/TreeMap$Entry;") ∈ lw_all := lw_g (lw_at lw_m17 239 rfl) rfl
theorem q4473 : (Jvm.Cond.lays "java/util/TreeMap$EntryIterator" "java/util/TreeMap$PrivateEntryIterator" "expectedModCount" "I") ∈ lw_all := lw_g (lw_at lw_m18 1 rfl) rfl
theorem q4475 : (Jvm.Cond.laysFinal "java/util/TreeMap$EntryIterator" "java/util/TreeMap$PrivateEntryIterator" "this$0" "Ljava/util/TreeMap;") ∈ lw_all := lw_g (lw_at lw_m18 3 rfl) rfl
theorem q4477 : (Jvm.Cond.superclass "java/util/TreeMap$EntryIterator" "java/util/TreeMap$PrivateEntryIterator") ∈ lw_all := lw_g (lw_at lw_m18 5 rfl) rfl
theorem q4637 : (Jvm.Cond.selects "java/util/TreeMap$EntryIterator" ({ cls := "java/util/Iterator", name := "remove", desc := "()V" } : Jvm.MethodName) ({ cls := "java/util/TreeMap$PrivateEntryIterator", name := "remove", desc := "()V" } : Jvm.MethodName)) ∈ lw_all := lw_g (lw_at lw_m18 165 rfl) rfl
theorem q4638 : (Jvm.Cond.unhidden "java/util/TreeMap$EntryIterator" "remove" "()V") ∈ lw_tbl := lw_at lw_m18 166 rfl
theorem q9698 : (Jvm.Cond.castable "java/util/TreeMap$EntryIterator" "java/lang/Object") ∈ lw_tbl := lw_at lw_m39 186 rfl
theorem in_J41 : ∀ w ∈ wsJ410, w ∈ lw_all := lw_in wsJ410 [4469, 4471, 4473, 4475] (by decide +kernel) (by decide +kernel)
