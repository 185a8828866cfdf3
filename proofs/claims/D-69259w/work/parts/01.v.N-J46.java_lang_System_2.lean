/-! java/lang/System$2 -/
set_option maxRecDepth 100000
def RJ46 : String := "java/lang/System$2"
abbrev cJ46_getUTF16Char : ByteArray := prog_91_method_45_code
def yJ46_getUTF16Char : MethodName := ⟨RJ46, "getUTF16Char", "([BI)C"⟩
def dkwJ46_getUTF16Char_0 : List UInt8 := [43, 28, 184, 0, 185, 172]
abbrev dktJ46_getUTF16Char_0 : List UInt8 := dkwJ46_getUTF16Char_0 ++ []
theorem dksJ46_getUTF16Char_0 : cJ46_getUTF16Char.data.toList.drop 0 = dktJ46_getUTF16Char_0 := by decide +kernel
theorem dJ46_getUTF16Char_0 : decode cJ46_getUTF16Char 0 = .ok (.aload_n 1, 1) := dk_43 (dk_at dksJ46_getUTF16Char_0 0 rfl rfl)
theorem dJ46_getUTF16Char_1 : decode cJ46_getUTF16Char 1 = .ok (.iload_n 2, 1) := dk_28 (dk_at dksJ46_getUTF16Char_0 1 rfl rfl)
theorem dJ46_getUTF16Char_2 : decode cJ46_getUTF16Char 2 = .ok (.invokestatic 185, 3) := dk_184 0 185 (dk_at dksJ46_getUTF16Char_0 2 rfl rfl)
theorem dJ46_getUTF16Char_5 : decode cJ46_getUTF16Char 5 = .ok (.ireturn, 1) := dk_172 (dk_at dksJ46_getUTF16Char_0 5 rfl rfl)
theorem q2041 : (Jvm.Cond.selects "java/lang/System$2" ({ cls := "java/lang/Object", name := "getClass", desc := "()Ljava/lang/Class;" } : Jvm.MethodName) ({ cls := "java/lang/Object", name := "getClass", desc := "()Ljava/lang/Class;" } : Jvm.MethodName)) ∈ lw_all := lw_g (lw_at lw_m7 209 rfl) rfl
theorem q3165 : (Jvm.Cond.selects "java/lang/System$2" ({ cls := "java/lang/Object", name := "equals", desc := "(Ljava/lang/Object;)Z" } : Jvm.MethodName) ({ cls := "java/lang/Object", name := "equals", desc := "(Ljava/lang/Object;)Z" } : Jvm.MethodName)) ∈ lw_all := lw_g (lw_at lw_m12 133 rfl) rfl
theorem q3699 : (Jvm.Cond.castable "java/lang/System$2" "jdk/internal/access/JavaLangAccess") ∈ lw_tbl := lw_at lw_m14 187 rfl
theorem q3700 : (Jvm.Cond.selects "java/lang/System$2" ({ cls := "jdk/internal/access/JavaLangAccess", name := "getUTF16Char", desc := "([BI)C" } : Jvm.MethodName) ({ cls := "java/lang/System$2", name := "getUTF16Char", desc := "([BI)C" } : Jvm.MethodName)) ∈ lw_all := lw_g (lw_at lw_m14 188 rfl) rfl
theorem q3701 : (Jvm.Cond.unhidden "java/lang/System$2" "getUTF16Char" "([BI)C") ∈ lw_tbl := lw_at lw_m14 189 rfl
theorem q3702 : (Jvm.Cond.instanceMethod ({ cls := "java/lang/System$2", name := "getUTF16Char", desc := "([BI)C" } : Jvm.MethodName)) ∈ lw_all := lw_g (lw_at lw_m14 190 rfl) rfl
theorem q3703 : (Jvm.Cond.publicMethod ({ cls := "java/lang/System$2", name := "getUTF16Char", desc := "([BI)C" } : Jvm.MethodName)) ∈ lw_tbl := lw_at lw_m14 191 rfl
theorem q3704 : (Jvm.Cond.code ({ cls := "java/lang/System$2", name := "getUTF16Char", desc := "([BI)C" } : Jvm.MethodName) prog_91_method_45_code (3 : Nat) (Option.some Jvm.ClassFile.FieldType.char)) ∈ lw_all := lw_g (lw_at lw_m14 192 rfl) rfl
theorem q3705 : (Jvm.Cond.methodLink "java/lang/System$2" (185 : Nat) ({ cls := "java/lang/StringUTF16", name := "getChar", desc := "([BI)C" } : Jvm.MethodName)) ∈ lw_all := lw_g (lw_at lw_m14 193 rfl) rfl
theorem q3734 : (Jvm.Cond.selects "java/lang/System$2" ({ cls := "java/lang/Object", name := "hashCode", desc := "()I" } : Jvm.MethodName) ({ cls := "java/lang/Object", name := "hashCode", desc := "()I" } : Jvm.MethodName)) ∈ lw_all := lw_g (lw_at lw_m14 222 rfl) rfl
theorem q9690 : (Jvm.Cond.castable "java/lang/System$2" "java/lang/Object") ∈ lw_tbl := lw_at lw_m39 178 rfl
