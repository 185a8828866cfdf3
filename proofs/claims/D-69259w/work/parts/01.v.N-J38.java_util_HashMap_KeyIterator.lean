/-! java/util/HashMap$KeyIterator -/
set_option maxRecDepth 100000
def RJ38 : String := "java/util/HashMap$KeyIterator"
def TJ38 : u_T := fun k => match k with
  | 0 => ("java/util/HashMap$HashIterator", "next", "Ljava/util/HashMap$Node;", false)
  | 1 => ("java/util/HashMap$HashIterator", "current", "Ljava/util/HashMap$Node;", false)
  | 2 => ("java/util/HashMap$HashIterator", "expectedModCount", "I", false)
  | 3 => ("java/util/HashMap$HashIterator", "index", "I", false)
  | _ => ("java/util/HashMap$HashIterator", "this$0", "Ljava/util/HashMap;", true)
def tyJ38 : Nat → FieldType := fun k => match k with
  | 0 => .object "java/util/HashMap$Node"
  | 1 => .object "java/util/HashMap$Node"
  | 2 => .int
  | 3 => .int
  | _ => .object "java/util/HashMap"
abbrev wsJ380 : List Cond := u_ws RJ38 TJ38 5
theorem nmJ38 : ∀ a, a < 5 → ∀ b, b < 5 → a ≠ b → (TJ38 a).2.1 ≠ (TJ38 b).2.1 := by decide +kernel
theorem tyJ38_ok : ∀ k, k < 5 → parseFieldDescriptor (TJ38 k).2.2.1 = some (tyJ38 k) := by decide +kernel
abbrev cJ38_next : ByteArray := prog_111_method_2_code
def yJ38_next : MethodName := ⟨RJ38, "next", "()Ljava/lang/Object;"⟩
def dkwJ38_next_0 : List UInt8 := [42, 182, 0, 7, 180, 0, 13, 176]
abbrev dktJ38_next_0 : List UInt8 := dkwJ38_next_0 ++ []
theorem dksJ38_next_0 : cJ38_next.data.toList.drop 0 = dktJ38_next_0 := by decide +kernel
theorem dJ38_next_0 : decode cJ38_next 0 = .ok (.aload_n 0, 1) := dk_42 (dk_at dksJ38_next_0 0 rfl rfl)
theorem dJ38_next_1 : decode cJ38_next 1 = .ok (.invokevirtual 7, 3) := dk_182 0 7 (dk_at dksJ38_next_0 1 rfl rfl)
theorem dJ38_next_4 : decode cJ38_next 4 = .ok (.getfield 13, 3) := dk_180 0 13 (dk_at dksJ38_next_0 4 rfl rfl)
theorem dJ38_next_7 : decode cJ38_next 7 = .ok (.areturn, 1) := dk_176 (dk_at dksJ38_next_0 7 rfl rfl)
abbrev cJ38_init : ByteArray := prog_111_method_1_code
def yJ38_init : MethodName := ⟨RJ38, "<init>", "(Ljava/util/HashMap;)V"⟩
def dkwJ38_init_0 : List UInt8 := [42, 43, 183, 0, 1, 177]
abbrev dktJ38_init_0 : List UInt8 := dkwJ38_init_0 ++ []
theorem dksJ38_init_0 : cJ38_init.data.toList.drop 0 = dktJ38_init_0 := by decide +kernel
theorem dJ38_init_0 : decode cJ38_init 0 = .ok (.aload_n 0, 1) := dk_42 (dk_at dksJ38_init_0 0 rfl rfl)
theorem dJ38_init_1 : decode cJ38_init 1 = .ok (.aload_n 1, 1) := dk_43 (dk_at dksJ38_init_0 1 rfl rfl)
theorem dJ38_init_2 : decode cJ38_init 2 = .ok (.invokespecial 1, 3) := dk_183 0 1 (dk_at dksJ38_init_0 2 rfl rfl)
theorem dJ38_init_5 : decode cJ38_init 5 = .ok (.return_, 1) := dk_177 (dk_at dksJ38_init_0 5 rfl rfl)
theorem q496 : (Jvm.Cond.initialized "java/util/HashMap$KeyIterator") ∈ lw_all := lw_g (lw_at lw_m1 104 rfl) rfl
theorem q2049 : (Jvm.Cond.selects "java/util/HashMap$KeyIterator" ({ cls := "java/lang/Object", name := "getClass", desc := "()Ljava/lang/Class;" } : Jvm.MethodName) ({ cls := "java/lang/Object", name := "getClass", desc := "()Ljava/lang/Class;" } : Jvm.MethodName)) ∈ lw_all := lw_g (lw_at lw_m7 217 rfl) rfl
theorem q2980 : (Jvm.Cond.castable "java/util/HashMap$KeyIterator" "java/util/Iterator") ∈ lw_tbl := lw_at lw_m11 188 rfl
theorem q2981 : (Jvm.Cond.selects "java/util/HashMap$KeyIterator" ({ cls := "java/util/Iterator", name := "hasNext", desc := "()Z" } : Jvm.MethodName) ({ cls := "java/util/HashMap$HashIterator", name := "hasNext", desc := "()Z" } : Jvm.MethodName)) ∈ lw_all := lw_g (lw_at lw_m11 189 rfl) rfl
theorem q2982 : (Jvm.Cond.unhidden "java/util/HashMap$KeyIterator" "hasNext" "()Z") ∈ lw_tbl := lw_at lw_m11 190 rfl
theorem q3016 : (Jvm.Cond.selects "java/util/HashMap$KeyIterator" ({ cls := "java/util/Iterator", name := "next", desc := "()Ljava/lang/Object;" } : Jvm.MethodName) ({ cls := "java/util/HashMap$KeyIterator", name := "next", desc := "()Ljava/lang/Object;" } : Jvm.MethodName)) ∈ lw_all := lw_g (lw_at lw_m11 224 rfl) rfl
theorem q3017 : (Jvm.Cond.unhidden "java/util/HashMap$KeyIterator" "next" "()Ljava/lang/Object;") ∈ lw_tbl := lw_at lw_m11 225 rfl
theorem q3018 : (Jvm.Cond.instanceMethod ({ cls := "java/util/HashMap$KeyIterator", name := "next", desc := "()Ljava/lang/Object;" } : Jvm.MethodName)) ∈ lw_all := lw_g (lw_at lw_m11 226 rfl) rfl
theorem q3019 : (Jvm.Cond.publicMethod ({ cls := "java/util/HashMap$KeyIterator", name := "next", desc := "()Ljava/lang/Object;" } : Jvm.MethodName)) ∈ lw_tbl := lw_at lw_m11 227 rfl
theorem q3020 : (Jvm.Cond.code ({ cls := "java/util/HashMap$KeyIterator", name := "next", desc := "()Ljava/lang/Object;" } : Jvm.MethodName) prog_111_method_2_code (1 : Nat) (Option.some (Jvm.ClassFile.FieldType.object "java/lang/Object"))) ∈ lw_all := lw_g (lw_at lw_m11 228 rfl) rfl
theorem q3021 : (Jvm.Cond.methodLink "java/util/HashMap$KeyIterator" (7 : Nat) ({ cls := "java/util/HashMap$KeyIterator", name := "nextNode", desc := "()Ljava/util/HashMap$Node;" } : Jvm.MethodName)) ∈ lw_all := lw_g (lw_at lw_m11 229 rfl) rfl
theorem q3022 : (Jvm.Cond.sameMethod "java/util/HashMap$KeyIterator" "java/util/HashMap$HashIterator" "nextNode" "()Ljava/util/HashMap$Node;") ∈ lw_all := lw_g (lw_at lw_m11 230 rfl) rfl
theorem q3024 : (Jvm.Cond.selects "java/util/HashMap$KeyIterator" ({ cls := "java/util/HashMap$KeyIterator", name := "nextNode", desc := "()Ljava/util/HashMap$Node;" } : Jvm.MethodName) ({ cls := "java/util/HashMap$HashIterator", name := "nextNode", desc := "()Ljava/util/HashMap$Node;" } : Jvm.MethodName)) ∈ lw_all := lw_g (lw_at lw_m11 232 rfl) rfl
theorem q3775 : (Jvm.Cond.fieldLink "java/util/HashMap$KeyIterator" (13 : Nat) "java/util/HashMap$Node" "key" "Ljava/lang/Object;") ∈ lw_all := lw_g (lw_at lw_m15 23 rfl) rfl
theorem q4400 : (Jvm.Cond.instantiable "java/util/HashMap$KeyIterator" (5 : Nat)) ∈ lw_all := lw_g (lw_at lw_m17 168 rfl) rfl
theorem q4402 : (Jvm.Cond.instanceMethod ({ cls := "java/util/HashMap$KeyIterator", name := "<init>", desc := "(Ljava/util/HashMap;)V" } : Jvm.MethodName)) ∈ lw_all := lw_g (lw_at lw_m17 170 rfl) rfl
theorem q4403 : (Jvm.Cond.code ({ cls := "java/util/HashMap$KeyIterator", name := "<init>", desc := "(Ljava/util/HashMap;)V" } : Jvm.MethodName) prog_111_method_1_code (2 : Nat) (Option.none : Option Jvm.ClassFile.FieldType)) ∈ lw_all := lw_g (lw_at lw_m17 171 rfl) rfl
theorem q4404 : (Jvm.Cond.methodLink "java/util/HashMap$KeyIterator" (1 : Nat) ({ cls := "java/util/HashMap$HashIterator", name := "<init>", desc := "(Ljava/util/HashMap;)V" } : Jvm.MethodName)) ∈ lw_all := lw_g (lw_at lw_m17 172 rfl) rfl
theorem q4413 : (Jvm.Cond.lays "java/util/HashMap$KeyIterator" "java/util/HashMap$HashIterator" "next" "Ljava/util/HashMap$Node;") ∈ lw_all := lw_g (lw_at lw_m17 181 rfl) rfl
theorem q4415 : (Jvm.Cond.lays "java/util/HashMap$KeyIterator" "java/util/HashMap$HashIterator" "current" "Ljava/util/HashMap$Node;") ∈ lw_all := lw_g (lw_at lw_m17 183 rfl) rfl
theorem q4417 : (Jvm.Cond.lays "java/util/HashMap$KeyIterator" "java/util/HashMap$HashIterator" "expectedModCount" "I") ∈ lw_all := lw_g (lw_at lw_m17 185 rfl) rfl
theorem q4419 : (Jvm.Cond.lays "java/util/HashMap$KeyIterator" "java/util/HashMap$HashIterator" "index" "I") ∈ lw_all := lw_g (lw_at lw_m17 187 rfl) rfl
theorem q4421 : (Jvm.Cond.laysFinal "java/util/HashMap$KeyIterator" "java/util/HashMap$HashIterator" "this$0" "Ljava/util/HashMap;") ∈ lw_all := lw_g (lw_at lw_m17 189 rfl) rfl
theorem q4423 : (Jvm.Cond.superclass "java/util/HashMap$KeyIterator" "java/util/HashMap$HashIterator") ∈ lw_all := lw_g (lw_at lw_m17 191 rfl) rfl
theorem q4611 : (Jvm.Cond.selects "java/util/HashMap$KeyIterator" ({ cls := "java/util/Iterator", name := "remove", desc := "()V" } : Jvm.MethodName) ({ cls := "java/util/HashMap$HashIterator", name := "remove", desc := "()V" } : Jvm.MethodName)) ∈ lw_all := lw_g (lw_at lw_m18 139 rfl) rfl
theorem q4612 : (Jvm.Cond.unhidden "java/util/HashMap$KeyIterator" "remove" "()V") ∈ lw_tbl := lw_at lw_m18 140 rfl
theorem q9697 : (Jvm.Cond.castable "java/util/HashMap$KeyIterator" "java/lang/Object") ∈ lw_tbl := lw_at lw_m39 185 rfl
theorem in_J38 : ∀ w ∈ wsJ380, w ∈ lw_all := lw_in wsJ380 [4413, 4415, 4417, 4419, 4421] (by decide +kernel) (by decide +kernel)
