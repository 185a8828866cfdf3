/-! java/util/AbstractCollection -/
set_option maxRecDepth 100000
def RJ0 : String := "java/util/AbstractCollection"
abbrev cJ0_init : ByteArray := prog_95_method_1_code
def yJ0_init : MethodName := ⟨RJ0, "<init>", "()V"⟩
theorem dJ0_init_0 : decode cJ0_init 0 = .ok (.aload_n 0, 1) := by decide +kernel
theorem dJ0_init_1 : decode cJ0_init 1 = .ok (.invokespecial 1, 3) := by decide +kernel
theorem dJ0_init_4 : decode cJ0_init 4 = .ok (.return_, 1) := by decide +kernel
abbrev cJ0_addAll : ByteArray := prog_95_method_12_code
def yJ0_addAll : MethodName := ⟨RJ0, "addAll", "(Ljava/util/Collection;)Z"⟩
def dkwJ0_addAll_1 : List UInt8 := [58, 4, 42, 25, 4, 182, 0, 82, 153, 0, 5, 4, 61, 167, 255, 228, 28, 172]
abbrev dktJ0_addAll_1 : List UInt8 := dkwJ0_addAll_1 ++ []
def dkwJ0_addAll_0 : List UInt8 := [3, 61, 43, 185, 0, 76, 1, 0, 78, 45, 185, 0, 17, 1, 0, 153, 0, 25, 45, 185, 0, 23, 1, 0]
abbrev dktJ0_addAll_0 : List UInt8 := dkwJ0_addAll_0 ++ dktJ0_addAll_1
theorem dksJ0_addAll_0 : cJ0_addAll.data.toList.drop 0 = dktJ0_addAll_0 := by decide +kernel
theorem dksJ0_addAll_1 : cJ0_addAll.data.toList.drop 24 = dktJ0_addAll_1 := dk_seg dksJ0_addAll_0 24 rfl rfl
theorem dJ0_addAll_0 : decode cJ0_addAll 0 = .ok (.iconst 0, 1) := dk_3 (dk_at dksJ0_addAll_0 0 rfl rfl)
theorem dJ0_addAll_1 : decode cJ0_addAll 1 = .ok (.istore_n 2, 1) := dk_61 (dk_at dksJ0_addAll_0 1 rfl rfl)
theorem dJ0_addAll_2 : decode cJ0_addAll 2 = .ok (.aload_n 1, 1) := dk_43 (dk_at dksJ0_addAll_0 2 rfl rfl)
theorem dJ0_addAll_3 : decode cJ0_addAll 3 = .ok (.invokeinterface 76 1, 5) := by decide +kernel
theorem dJ0_addAll_8 : decode cJ0_addAll 8 = .ok (.astore_n 3, 1) := dk_78 (dk_at dksJ0_addAll_0 8 rfl rfl)
theorem dJ0_addAll_9 : decode cJ0_addAll 9 = .ok (.aload_n 3, 1) := dk_45 (dk_at dksJ0_addAll_0 9 rfl rfl)
theorem dJ0_addAll_10 : decode cJ0_addAll 10 = .ok (.invokeinterface 17 1, 5) := by decide +kernel
theorem dJ0_addAll_15 : decode cJ0_addAll 15 = .ok (.ifCond .eq 25, 3) := dk_153 0 25 (dk_at dksJ0_addAll_0 15 rfl rfl)
theorem dJ0_addAll_18 : decode cJ0_addAll 18 = .ok (.aload_n 3, 1) := dk_45 (dk_at dksJ0_addAll_0 18 rfl rfl)
theorem dJ0_addAll_19 : decode cJ0_addAll 19 = .ok (.invokeinterface 23 1, 5) := by decide +kernel
theorem dJ0_addAll_24 : decode cJ0_addAll 24 = .ok (.astore 4, 2) := dk_58 4 (dk_at dksJ0_addAll_1 0 rfl rfl)
theorem dJ0_addAll_26 : decode cJ0_addAll 26 = .ok (.aload_n 0, 1) := dk_42 (dk_at dksJ0_addAll_1 2 rfl rfl)
theorem dJ0_addAll_27 : decode cJ0_addAll 27 = .ok (.aload 4, 2) := dk_25 4 (dk_at dksJ0_addAll_1 3 rfl rfl)
theorem dJ0_addAll_29 : decode cJ0_addAll 29 = .ok (.invokevirtual 82, 3) := dk_182 0 82 (dk_at dksJ0_addAll_1 5 rfl rfl)
theorem dJ0_addAll_32 : decode cJ0_addAll 32 = .ok (.ifCond .eq 5, 3) := dk_153 0 5 (dk_at dksJ0_addAll_1 8 rfl rfl)
theorem dJ0_addAll_35 : decode cJ0_addAll 35 = .ok (.iconst 1, 1) := dk_4 (dk_at dksJ0_addAll_1 11 rfl rfl)
theorem dJ0_addAll_36 : decode cJ0_addAll 36 = .ok (.istore_n 2, 1) := dk_61 (dk_at dksJ0_addAll_1 12 rfl rfl)
theorem dJ0_addAll_37 : decode cJ0_addAll 37 = .ok (.goto (-28), 3) := dk_167 255 228 (dk_at dksJ0_addAll_1 13 rfl rfl)
theorem dJ0_addAll_40 : decode cJ0_addAll 40 = .ok (.iload_n 2, 1) := dk_28 (dk_at dksJ0_addAll_1 16 rfl rfl)
theorem dJ0_addAll_41 : decode cJ0_addAll 41 = .ok (.ireturn, 1) := dk_172 (dk_at dksJ0_addAll_1 17 rfl rfl)
abbrev cJ0_add : ByteArray := prog_95_method_9_code
def yJ0_add : MethodName := ⟨RJ0, "add", "(Ljava/lang/Object;)Z"⟩
def dkwJ0_add_0 : List UInt8 := [187, 0, 70, 89, 183, 0, 72, 191]
abbrev dktJ0_add_0 : List UInt8 := dkwJ0_add_0 ++ []
theorem dksJ0_add_0 : cJ0_add.data.toList.drop 0 = dktJ0_add_0 := by decide +kernel
theorem dJ0_add_0 : decode cJ0_add 0 = .ok (.new 70, 3) := dk_187 0 70 (dk_at dksJ0_add_0 0 rfl rfl)
theorem dJ0_add_3 : decode cJ0_add 3 = .ok (.dup, 1) := dk_89 (dk_at dksJ0_add_0 3 rfl rfl)
theorem dJ0_add_4 : decode cJ0_add 4 = .ok (.invokespecial 72, 3) := dk_183 0 72 (dk_at dksJ0_add_0 4 rfl rfl)
theorem dJ0_add_7 : decode cJ0_add 7 = .ok (.athrow, 1) := dk_191 (dk_at dksJ0_add_0 7 rfl rfl)
theorem q399 : (Jvm.Cond.initialized "java/util/AbstractCollection") ∈ lw_all := lw_g (lw_at lw_m1 7 rfl) rfl
theorem q601 : (Jvm.Cond.instanceMethod ({ cls := "java/util/AbstractCollection", name := "<init>", desc := "()V" } : Jvm.MethodName)) ∈ lw_all := lw_g (lw_at lw_m1 209 rfl) rfl
theorem q602 : (Jvm.Cond.code ({ cls := "java/util/AbstractCollection", name := "<init>", desc := "()V" } : Jvm.MethodName) prog_95_method_1_code (1 : Nat) (Option.none : Option Jvm.ClassFile.FieldType)) ∈ lw_all := lw_g (lw_at lw_m1 210 rfl) rfl
theorem q603 : (Jvm.Cond.methodLink "java/util/AbstractCollection" (1 : Nat) ({ cls := "java/lang/Object", name := "<init>", desc := "()V" } : Jvm.MethodName)) ∈ lw_all := lw_g (lw_at lw_m1 211 rfl) rfl
theorem q4655 : (Jvm.Cond.declares ({ cls := "java/util/AbstractCollection", name := "addAll", desc := "(Ljava/util/Collection;)Z" } : Jvm.MethodName)) ∈ lw_tbl := lw_at lw_m18 183 rfl
theorem q4657 : (Jvm.Cond.instanceMethod ({ cls := "java/util/AbstractCollection", name := "addAll", desc := "(Ljava/util/Collection;)Z" } : Jvm.MethodName)) ∈ lw_all := lw_g (lw_at lw_m18 185 rfl) rfl
theorem q4658 : (Jvm.Cond.code ({ cls := "java/util/AbstractCollection", name := "addAll", desc := "(Ljava/util/Collection;)Z" } : Jvm.MethodName) prog_95_method_12_code (5 : Nat) (Option.some Jvm.ClassFile.FieldType.boolean)) ∈ lw_all := lw_g (lw_at lw_m18 186 rfl) rfl
theorem q4659 : (Jvm.Cond.interfaceEntry "java/util/AbstractCollection" (76 : Nat)) ∈ lw_tbl := lw_at lw_m18 187 rfl
theorem q4660 : (Jvm.Cond.methodLink "java/util/AbstractCollection" (76 : Nat) ({ cls := "java/util/Collection", name := "iterator", desc := "()Ljava/util/Iterator;" } : Jvm.MethodName)) ∈ lw_all := lw_g (lw_at lw_m18 188 rfl) rfl
theorem q4702 : (Jvm.Cond.interfaceEntry "java/util/AbstractCollection" (17 : Nat)) ∈ lw_tbl := lw_at lw_m18 230 rfl
theorem q4703 : (Jvm.Cond.methodLink "java/util/AbstractCollection" (17 : Nat) ({ cls := "java/util/Iterator", name := "hasNext", desc := "()Z" } : Jvm.MethodName)) ∈ lw_all := lw_g (lw_at lw_m18 231 rfl) rfl
theorem q4704 : (Jvm.Cond.interfaceEntry "java/util/AbstractCollection" (23 : Nat)) ∈ lw_tbl := lw_at lw_m18 232 rfl
theorem q4705 : (Jvm.Cond.methodLink "java/util/AbstractCollection" (23 : Nat) ({ cls := "java/util/Iterator", name := "next", desc := "()Ljava/lang/Object;" } : Jvm.MethodName)) ∈ lw_all := lw_g (lw_at lw_m18 233 rfl) rfl
theorem q4706 : (Jvm.Cond.methodLink "java/util/AbstractCollection" (82 : Nat) ({ cls := "java/util/AbstractCollection", name := "add", desc := "(Ljava/lang/Object;)Z" } : Jvm.MethodName)) ∈ lw_all := lw_g (lw_at lw_m18 234 rfl) rfl
theorem q4707 : (Jvm.Cond.instanceMethod ({ cls := "java/util/AbstractCollection", name := "add", desc := "(Ljava/lang/Object;)Z" } : Jvm.MethodName)) ∈ lw_all := lw_g (lw_at lw_m18 235 rfl) rfl
theorem q4708 : (Jvm.Cond.sameMethod "java/util/AbstractCollection" "java/util/AbstractCollection" "add" "(Ljava/lang/Object;)Z") ∈ lw_all := lw_g (lw_at lw_m18 236 rfl) rfl
theorem q4717 : (Jvm.Cond.code ({ cls := "java/util/AbstractCollection", name := "add", desc := "(Ljava/lang/Object;)Z" } : Jvm.MethodName) prog_95_method_9_code (2 : Nat) (Option.some Jvm.ClassFile.FieldType.boolean)) ∈ lw_all := lw_g (lw_at lw_m19 5 rfl) rfl
