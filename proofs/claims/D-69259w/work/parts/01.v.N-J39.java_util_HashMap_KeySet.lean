/-! java/util/HashMap$KeySet -/
set_option maxRecDepth 100000
def RJ39 : String := "java/util/HashMap$KeySet"
def TJ39 : u_T := fun k => match k with
  | _ => ("java/util/HashMap$KeySet", "this$0", "Ljava/util/HashMap;", true)
def tyJ39 : Nat → FieldType := fun k => match k with
  | _ => .object "java/util/HashMap"
abbrev wsJ390 : List Cond := u_ws RJ39 TJ39 1
theorem nmJ39 : ∀ a, a < 1 → ∀ b, b < 1 → a ≠ b → (TJ39 a).2.1 ≠ (TJ39 b).2.1 := by decide +kernel
theorem tyJ39_ok : ∀ k, k < 1 → parseFieldDescriptor (TJ39 k).2.2.1 = some (tyJ39 k) := by decide +kernel
abbrev cJ39_iterator : ByteArray := prog_112_method_4_code
def yJ39_iterator : MethodName := ⟨RJ39, "iterator", "()Ljava/util/Iterator;"⟩
def dkwJ39_iterator_0 : List UInt8 := [187, 0, 22, 89, 42, 180, 0, 1, 183, 0, 24, 176]
abbrev dktJ39_iterator_0 : List UInt8 := dkwJ39_iterator_0 ++ []
theorem dksJ39_iterator_0 : cJ39_iterator.data.toList.drop 0 = dktJ39_iterator_0 := by decide +kernel
theorem dJ39_iterator_0 : decode cJ39_iterator 0 = .ok (.new 22, 3) := dk_187 0 22 (dk_at dksJ39_iterator_0 0 rfl rfl)
theorem dJ39_iterator_3 : decode cJ39_iterator 3 = .ok (.dup, 1) := dk_89 (dk_at dksJ39_iterator_0 3 rfl rfl)
theorem dJ39_iterator_4 : decode cJ39_iterator 4 = .ok (.aload_n 0, 1) := dk_42 (dk_at dksJ39_iterator_0 4 rfl rfl)
theorem dJ39_iterator_5 : decode cJ39_iterator 5 = .ok (.getfield 1, 3) := dk_180 0 1 (dk_at dksJ39_iterator_0 5 rfl rfl)
theorem dJ39_iterator_8 : decode cJ39_iterator 8 = .ok (.invokespecial 24, 3) := dk_183 0 24 (dk_at dksJ39_iterator_0 8 rfl rfl)
theorem dJ39_iterator_11 : decode cJ39_iterator 11 = .ok (.areturn, 1) := dk_176 (dk_at dksJ39_iterator_0 11 rfl rfl)
abbrev cJ39_init : ByteArray := prog_112_method_1_code
def yJ39_init : MethodName := ⟨RJ39, "<init>", "(Ljava/util/HashMap;)V"⟩
def dkwJ39_init_0 : List UInt8 := [42, 43, 181, 0, 1, 42, 183, 0, 7, 177]
abbrev dktJ39_init_0 : List UInt8 := dkwJ39_init_0 ++ []
theorem dksJ39_init_0 : cJ39_init.data.toList.drop 0 = dktJ39_init_0 := by decide +kernel
theorem dJ39_init_0 : decode cJ39_init 0 = .ok (.aload_n 0, 1) := dk_42 (dk_at dksJ39_init_0 0 rfl rfl)
theorem dJ39_init_1 : decode cJ39_init 1 = .ok (.aload_n 1, 1) := dk_43 (dk_at dksJ39_init_0 1 rfl rfl)
theorem dJ39_init_2 : decode cJ39_init 2 = .ok (.putfield 1, 3) := dk_181 0 1 (dk_at dksJ39_init_0 2 rfl rfl)
theorem dJ39_init_5 : decode cJ39_init 5 = .ok (.aload_n 0, 1) := dk_42 (dk_at dksJ39_init_0 5 rfl rfl)
theorem dJ39_init_6 : decode cJ39_init 6 = .ok (.invokespecial 7, 3) := dk_183 0 7 (dk_at dksJ39_init_0 6 rfl rfl)
theorem dJ39_init_9 : decode cJ39_init 9 = .ok (.return_, 1) := dk_177 (dk_at dksJ39_init_0 9 rfl rfl)
theorem q497 : (Jvm.Cond.initialized "java/util/HashMap$KeySet") ∈ lw_all := lw_g (lw_at lw_m1 105 rfl) rfl
theorem q2050 : (Jvm.Cond.selects "java/util/HashMap$KeySet" ({ cls := "java/lang/Object", name := "getClass", desc := "()Ljava/lang/Class;" } : Jvm.MethodName) ({ cls := "java/lang/Object", name := "getClass", desc := "()Ljava/lang/Class;" } : Jvm.MethodName)) ∈ lw_all := lw_g (lw_at lw_m7 218 rfl) rfl
theorem q4393 : (Jvm.Cond.castable "java/util/HashMap$KeySet" "java/util/Set") ∈ lw_tbl := lw_at lw_m17 161 rfl
theorem q4394 : (Jvm.Cond.selects "java/util/HashMap$KeySet" ({ cls := "java/util/Set", name := "iterator", desc := "()Ljava/util/Iterator;" } : Jvm.MethodName) ({ cls := "java/util/HashMap$KeySet", name := "iterator", desc := "()Ljava/util/Iterator;" } : Jvm.MethodName)) ∈ lw_all := lw_g (lw_at lw_m17 162 rfl) rfl
theorem q4395 : (Jvm.Cond.unhidden "java/util/HashMap$KeySet" "iterator" "()Ljava/util/Iterator;") ∈ lw_tbl := lw_at lw_m17 163 rfl
theorem q4396 : (Jvm.Cond.instanceMethod ({ cls := "java/util/HashMap$KeySet", name := "iterator", desc := "()Ljava/util/Iterator;" } : Jvm.MethodName)) ∈ lw_all := lw_g (lw_at lw_m17 164 rfl) rfl
theorem q4397 : (Jvm.Cond.publicMethod ({ cls := "java/util/HashMap$KeySet", name := "iterator", desc := "()Ljava/util/Iterator;" } : Jvm.MethodName)) ∈ lw_tbl := lw_at lw_m17 165 rfl
theorem q4398 : (Jvm.Cond.code ({ cls := "java/util/HashMap$KeySet", name := "iterator", desc := "()Ljava/util/Iterator;" } : Jvm.MethodName) prog_112_method_4_code (1 : Nat) (Option.some (Jvm.ClassFile.FieldType.object "java/util/Iterator"))) ∈ lw_all := lw_g (lw_at lw_m17 166 rfl) rfl
theorem q4399 : (Jvm.Cond.classLink "java/util/HashMap$KeySet" (22 : Nat) "java/util/HashMap$KeyIterator") ∈ lw_all := lw_g (lw_at lw_m17 167 rfl) rfl
theorem q4401 : (Jvm.Cond.methodLink "java/util/HashMap$KeySet" (24 : Nat) ({ cls := "java/util/HashMap$KeyIterator", name := "<init>", desc := "(Ljava/util/HashMap;)V" } : Jvm.MethodName)) ∈ lw_all := lw_g (lw_at lw_m17 169 rfl) rfl
theorem q4435 : (Jvm.Cond.instantiable "java/util/HashMap$KeySet" (1 : Nat)) ∈ lw_all := lw_g (lw_at lw_m17 203 rfl) rfl
theorem q4437 : (Jvm.Cond.instanceMethod ({ cls := "java/util/HashMap$KeySet", name := "<init>", desc := "(Ljava/util/HashMap;)V" } : Jvm.MethodName)) ∈ lw_all := lw_g (lw_at lw_m17 205 rfl) rfl
theorem q4438 : (Jvm.Cond.code ({ cls := "java/util/HashMap$KeySet", name := "<init>", desc := "(Ljava/util/HashMap;)V" } : Jvm.MethodName) prog_112_method_1_code (2 : Nat) (Option.none : Option Jvm.ClassFile.FieldType)) ∈ lw_all := lw_g (lw_at lw_m17 206 rfl) rfl
theorem q4439 : (Jvm.Cond.methodLink "java/util/HashMap$KeySet" (7 : Nat) ({ cls := "java/util/AbstractSet", name := "<init>", desc := "()V" } : Jvm.MethodName)) ∈ lw_all := lw_g (lw_at lw_m17 207 rfl) rfl
theorem q4440 : (Jvm.Cond.fieldLink "java/util/HashMap$KeySet" (1 : Nat) "java/util/HashMap$KeySet" "this$0" "Ljava/util/HashMap;") ∈ lw_all := lw_g (lw_at lw_m17 208 rfl) rfl
theorem q4441 : (Jvm.Cond.laysFinal "java/util/HashMap$KeySet" "java/util/HashMap$KeySet" "this$0" "Ljava/util/HashMap;") ∈ lw_all := lw_g (lw_at lw_m17 209 rfl) rfl
theorem q4442 : (Jvm.Cond.soleField "java/util/HashMap$KeySet" "this$0") ∈ lw_all := lw_g (lw_at lw_m17 210 rfl) rfl
theorem q4443 : (Jvm.Cond.superclass "java/util/HashMap$KeySet" "java/util/AbstractSet") ∈ lw_all := lw_g (lw_at lw_m17 211 rfl) rfl
theorem q4696 : (Jvm.Cond.castable "java/util/HashMap$KeySet" "java/util/Collection") ∈ lw_tbl := lw_at lw_m18 224 rfl
theorem q4697 : (Jvm.Cond.selects "java/util/HashMap$KeySet" ({ cls := "java/util/Collection", name := "iterator", desc := "()Ljava/util/Iterator;" } : Jvm.MethodName) ({ cls := "java/util/HashMap$KeySet", name := "iterator", desc := "()Ljava/util/Iterator;" } : Jvm.MethodName)) ∈ lw_all := lw_g (lw_at lw_m18 225 rfl) rfl
theorem q4714 : (Jvm.Cond.selects "java/util/HashMap$KeySet" ({ cls := "java/util/AbstractCollection", name := "add", desc := "(Ljava/lang/Object;)Z" } : Jvm.MethodName) ({ cls := "java/util/AbstractCollection", name := "add", desc := "(Ljava/lang/Object;)Z" } : Jvm.MethodName)) ∈ lw_all := lw_g (lw_at lw_m19 2 rfl) rfl
theorem q9696 : (Jvm.Cond.castable "java/util/HashMap$KeySet" "java/lang/Object") ∈ lw_tbl := lw_at lw_m39 184 rfl
theorem in_J39 : ∀ w ∈ wsJ390, w ∈ lw_all := lw_in wsJ390 [4441] (by decide +kernel) (by decide +kernel)
