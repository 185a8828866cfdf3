/-! java/util/LinkedHashMap$Entry -/
set_option maxRecDepth 100000
def RJ33 : String := "java/util/LinkedHashMap$Entry"
abbrev cJ33_init : ByteArray := prog_117_method_1_code
def yJ33_init : MethodName := ⟨RJ33, "<init>", "(ILjava/lang/Object;Ljava/lang/Object;Ljava/util/HashMap$Node;)V"⟩
def dkwJ33_init_0 : List UInt8 := [42, 27, 44, 45, 25, 4, 183, 0, 1, 177]
abbrev dktJ33_init_0 : List UInt8 := dkwJ33_init_0 ++ []
theorem dksJ33_init_0 : cJ33_init.data.toList.drop 0 = dktJ33_init_0 := by decide +kernel
theorem dJ33_init_0 : decode cJ33_init 0 = .ok (.aload_n 0, 1) := dk_42 (dk_at dksJ33_init_0 0 rfl rfl)
theorem dJ33_init_1 : decode cJ33_init 1 = .ok (.iload_n 1, 1) := dk_27 (dk_at dksJ33_init_0 1 rfl rfl)
theorem dJ33_init_2 : decode cJ33_init 2 = .ok (.aload_n 2, 1) := dk_44 (dk_at dksJ33_init_0 2 rfl rfl)
theorem dJ33_init_3 : decode cJ33_init 3 = .ok (.aload_n 3, 1) := dk_45 (dk_at dksJ33_init_0 3 rfl rfl)
theorem dJ33_init_4 : decode cJ33_init 4 = .ok (.aload 4, 2) := dk_25 4 (dk_at dksJ33_init_0 4 rfl rfl)
theorem dJ33_init_6 : decode cJ33_init 6 = .ok (.invokespecial 1, 3) := dk_183 0 1 (dk_at dksJ33_init_0 6 rfl rfl)
theorem dJ33_init_9 : decode cJ33_init 9 = .ok (.return_, 1) := dk_177 (dk_at dksJ33_init_0 9 rfl rfl)
theorem q489 : (Jvm.Cond.initialized "java/util/LinkedHashMap$Entry") ∈ lw_all := lw_g (lw_at lw_m1 97 rfl) rfl
theorem q4080 : (Jvm.Cond.instanceMethod ({ cls := "java/util/LinkedHashMap$Entry", name := "<init>", desc := "(ILjava/lang/Object;Ljava/lang/Object;Ljava/util/HashMap$Node;)V" } : Jvm.MethodName)) ∈ lw_all := lw_g (lw_at lw_m16 88 rfl) rfl
theorem q4081 : (Jvm.Cond.code ({ cls := "java/util/LinkedHashMap$Entry", name := "<init>", desc := "(ILjava/lang/Object;Ljava/lang/Object;Ljava/util/HashMap$Node;)V" } : Jvm.MethodName) prog_117_method_1_code (5 : Nat) (Option.none : Option Jvm.ClassFile.FieldType)) ∈ lw_all := lw_g (lw_at lw_m16 89 rfl) rfl
theorem q4082 : (Jvm.Cond.methodLink "java/util/LinkedHashMap$Entry" (1 : Nat) ({ cls := "java/util/HashMap$Node", name := "<init>", desc := "(ILjava/lang/Object;Ljava/lang/Object;Ljava/util/HashMap$Node;)V" } : Jvm.MethodName)) ∈ lw_all := lw_g (lw_at lw_m16 90 rfl) rfl
theorem q4100 : (Jvm.Cond.soleField "java/util/LinkedHashMap$Entry" "before") ∈ lw_all := lw_g (lw_at lw_m16 108 rfl) rfl
theorem q4102 : (Jvm.Cond.soleField "java/util/LinkedHashMap$Entry" "after") ∈ lw_all := lw_g (lw_at lw_m16 110 rfl) rfl
