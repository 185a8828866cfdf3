/-! WasteHouse$Room -/
set_option maxRecDepth 100000
def RX36 : String := "WasteHouse$Room"
abbrev cX36_init : ByteArray := prog_35_method_1_code
def yX36_init : MethodName := ⟨RX36, "<init>", "(Ljava/lang/String;)V"⟩
def dkwX36_init_1 : List UInt8 := [181, 0, 16, 42, 43, 181, 0, 19, 177]
abbrev dktX36_init_1 : List UInt8 := dkwX36_init_1 ++ []
def dkwX36_init_0 : List UInt8 := [42, 183, 0, 1, 42, 187, 0, 7, 89, 183, 0, 9, 181, 0, 10, 42, 187, 0, 7, 89, 183, 0, 9]
abbrev dktX36_init_0 : List UInt8 := dkwX36_init_0 ++ dktX36_init_1
theorem dksX36_init_0 : cX36_init.data.toList.drop 0 = dktX36_init_0 := by decide +kernel
theorem dksX36_init_1 : cX36_init.data.toList.drop 23 = dktX36_init_1 := dk_seg dksX36_init_0 23 rfl rfl
theorem dX36_init_0 : decode cX36_init 0 = .ok (.aload_n 0, 1) := dk_42 (dk_at dksX36_init_0 0 rfl rfl)
theorem dX36_init_1 : decode cX36_init 1 = .ok (.invokespecial 1, 3) := dk_183 0 1 (dk_at dksX36_init_0 1 rfl rfl)
theorem dX36_init_4 : decode cX36_init 4 = .ok (.aload_n 0, 1) := dk_42 (dk_at dksX36_init_0 4 rfl rfl)
theorem dX36_init_5 : decode cX36_init 5 = .ok (.new 7, 3) := dk_187 0 7 (dk_at dksX36_init_0 5 rfl rfl)
theorem dX36_init_8 : decode cX36_init 8 = .ok (.dup, 1) := dk_89 (dk_at dksX36_init_0 8 rfl rfl)
theorem dX36_init_9 : decode cX36_init 9 = .ok (.invokespecial 9, 3) := dk_183 0 9 (dk_at dksX36_init_0 9 rfl rfl)
theorem dX36_init_12 : decode cX36_init 12 = .ok (.putfield 10, 3) := dk_181 0 10 (dk_at dksX36_init_0 12 rfl rfl)
theorem dX36_init_15 : decode cX36_init 15 = .ok (.aload_n 0, 1) := dk_42 (dk_at dksX36_init_0 15 rfl rfl)
theorem dX36_init_16 : decode cX36_init 16 = .ok (.new 7, 3) := dk_187 0 7 (dk_at dksX36_init_0 16 rfl rfl)
theorem dX36_init_19 : decode cX36_init 19 = .ok (.dup, 1) := dk_89 (dk_at dksX36_init_0 19 rfl rfl)
theorem dX36_init_20 : decode cX36_init 20 = .ok (.invokespecial 9, 3) := dk_183 0 9 (dk_at dksX36_init_0 20 rfl rfl)
theorem dX36_init_23 : decode cX36_init 23 = .ok (.putfield 16, 3) := dk_181 0 16 (dk_at dksX36_init_1 0 rfl rfl)
theorem dX36_init_26 : decode cX36_init 26 = .ok (.aload_n 0, 1) := dk_42 (dk_at dksX36_init_1 3 rfl rfl)
theorem dX36_init_27 : decode cX36_init 27 = .ok (.aload_n 1, 1) := dk_43 (dk_at dksX36_init_1 4 rfl rfl)
theorem dX36_init_28 : decode cX36_init 28 = .ok (.putfield 19, 3) := dk_181 0 19 (dk_at dksX36_init_1 5 rfl rfl)
theorem dX36_init_31 : decode cX36_init 31 = .ok (.return_, 1) := dk_177 (dk_at dksX36_init_1 8 rfl rfl)
abbrev cX36_add : ByteArray := prog_35_method_2_code
def yX36_add : MethodName := ⟨RX36, "add", "(Ljava/lang/String;Ljava/lang/String;)V"⟩
def dkwX36_add_0 : List UInt8 := [42, 180, 0, 10, 43, 182, 0, 23, 87, 42, 180, 0, 16, 44, 182, 0, 23, 87, 177]
abbrev dktX36_add_0 : List UInt8 := dkwX36_add_0 ++ []
theorem dksX36_add_0 : cX36_add.data.toList.drop 0 = dktX36_add_0 := by decide +kernel
theorem dX36_add_0 : decode cX36_add 0 = .ok (.aload_n 0, 1) := dk_42 (dk_at dksX36_add_0 0 rfl rfl)
theorem dX36_add_1 : decode cX36_add 1 = .ok (.getfield 10, 3) := dk_180 0 10 (dk_at dksX36_add_0 1 rfl rfl)
theorem dX36_add_4 : decode cX36_add 4 = .ok (.aload_n 1, 1) := dk_43 (dk_at dksX36_add_0 4 rfl rfl)
theorem dX36_add_5 : decode cX36_add 5 = .ok (.invokevirtual 23, 3) := dk_182 0 23 (dk_at dksX36_add_0 5 rfl rfl)
theorem dX36_add_8 : decode cX36_add 8 = .ok (.pop, 1) := dk_87 (dk_at dksX36_add_0 8 rfl rfl)
theorem dX36_add_9 : decode cX36_add 9 = .ok (.aload_n 0, 1) := dk_42 (dk_at dksX36_add_0 9 rfl rfl)
theorem dX36_add_10 : decode cX36_add 10 = .ok (.getfield 16, 3) := dk_180 0 16 (dk_at dksX36_add_0 10 rfl rfl)
theorem dX36_add_13 : decode cX36_add 13 = .ok (.aload_n 2, 1) := dk_44 (dk_at dksX36_add_0 13 rfl rfl)
theorem dX36_add_14 : decode cX36_add 14 = .ok (.invokevirtual 23, 3) := dk_182 0 23 (dk_at dksX36_add_0 14 rfl rfl)
theorem dX36_add_17 : decode cX36_add 17 = .ok (.pop, 1) := dk_87 (dk_at dksX36_add_0 17 rfl rfl)
theorem dX36_add_18 : decode cX36_add 18 = .ok (.return_, 1) := dk_177 (dk_at dksX36_add_0 18 rfl rfl)
abbrev cX36_find : ByteArray := prog_35_method_3_code
def yX36_find : MethodName := ⟨RX36, "find", "(Ljava/lang/String;)I"⟩
def dkwX36_find_0 : List UInt8 := [42, 180, 0, 10, 43, 182, 0, 27, 172]
abbrev dktX36_find_0 : List UInt8 := dkwX36_find_0 ++ []
theorem dksX36_find_0 : cX36_find.data.toList.drop 0 = dktX36_find_0 := by decide +kernel
theorem dX36_find_0 : decode cX36_find 0 = .ok (.aload_n 0, 1) := dk_42 (dk_at dksX36_find_0 0 rfl rfl)
theorem dX36_find_1 : decode cX36_find 1 = .ok (.getfield 10, 3) := dk_180 0 10 (dk_at dksX36_find_0 1 rfl rfl)
theorem dX36_find_4 : decode cX36_find 4 = .ok (.aload_n 1, 1) := dk_43 (dk_at dksX36_find_0 4 rfl rfl)
theorem dX36_find_5 : decode cX36_find 5 = .ok (.invokevirtual 27, 3) := dk_182 0 27 (dk_at dksX36_find_0 5 rfl rfl)
theorem dX36_find_8 : decode cX36_find 8 = .ok (.ireturn, 1) := dk_172 (dk_at dksX36_find_0 8 rfl rfl)
abbrev cX36_need : ByteArray := prog_35_method_4_code
def yX36_need : MethodName := ⟨RX36, "need", "(I)Ljava/lang/String;"⟩
def dkwX36_need_0 : List UInt8 := [42, 180, 0, 16, 27, 182, 0, 31, 192, 0, 35, 176]
abbrev dktX36_need_0 : List UInt8 := dkwX36_need_0 ++ []
theorem dksX36_need_0 : cX36_need.data.toList.drop 0 = dktX36_need_0 := by decide +kernel
theorem dX36_need_0 : decode cX36_need 0 = .ok (.aload_n 0, 1) := dk_42 (dk_at dksX36_need_0 0 rfl rfl)
theorem dX36_need_1 : decode cX36_need 1 = .ok (.getfield 16, 3) := dk_180 0 16 (dk_at dksX36_need_0 1 rfl rfl)
theorem dX36_need_4 : decode cX36_need 4 = .ok (.iload_n 1, 1) := dk_27 (dk_at dksX36_need_0 4 rfl rfl)
theorem dX36_need_5 : decode cX36_need 5 = .ok (.invokevirtual 31, 3) := dk_182 0 31 (dk_at dksX36_need_0 5 rfl rfl)
theorem dX36_need_8 : decode cX36_need 8 = .ok (.checkcast 35, 3) := dk_192 0 35 (dk_at dksX36_need_0 8 rfl rfl)
theorem dX36_need_11 : decode cX36_need 11 = .ok (.areturn, 1) := dk_176 (dk_at dksX36_need_0 11 rfl rfl)
abbrev cX36_bit : ByteArray := prog_35_method_6_code
def yX36_bit : MethodName := ⟨RX36, "bit", "(Z)J"⟩
def dkwX36_bit_0 : List UInt8 := [26, 153, 0, 7, 10, 167, 0, 4, 9, 173]
abbrev dktX36_bit_0 : List UInt8 := dkwX36_bit_0 ++ []
theorem dksX36_bit_0 : cX36_bit.data.toList.drop 0 = dktX36_bit_0 := by decide +kernel
theorem dX36_bit_0 : decode cX36_bit 0 = .ok (.iload_n 0, 1) := dk_26 (dk_at dksX36_bit_0 0 rfl rfl)
theorem dX36_bit_1 : decode cX36_bit 1 = .ok (.ifCond .eq 7, 3) := dk_153 0 7 (dk_at dksX36_bit_0 1 rfl rfl)
theorem dX36_bit_4 : decode cX36_bit 4 = .ok (.lconst 1, 1) := dk_10 (dk_at dksX36_bit_0 4 rfl rfl)
theorem dX36_bit_5 : decode cX36_bit 5 = .ok (.goto 4, 3) := dk_167 0 4 (dk_at dksX36_bit_0 5 rfl rfl)
theorem dX36_bit_8 : decode cX36_bit 8 = .ok (.lconst 0, 1) := dk_9 (dk_at dksX36_bit_0 8 rfl rfl)
theorem dX36_bit_9 : decode cX36_bit 9 = .ok (.lreturn, 1) := dk_173 (dk_at dksX36_bit_0 9 rfl rfl)
theorem q439 : (Jvm.Cond.initialized "WasteHouse$Room") ∈ lw_all := lw_g (lw_at lw_m1 47 rfl) rfl
theorem q1905 : (Jvm.Cond.instanceMethod ({ cls := "WasteHouse$Room", name := "<init>", desc := "(Ljava/lang/String;)V" } : Jvm.MethodName)) ∈ lw_all := lw_g (lw_at lw_m7 73 rfl) rfl
theorem q1906 : (Jvm.Cond.code ({ cls := "WasteHouse$Room", name := "<init>", desc := "(Ljava/lang/String;)V" } : Jvm.MethodName) prog_35_method_1_code (2 : Nat) (Option.none : Option Jvm.ClassFile.FieldType)) ∈ lw_all := lw_g (lw_at lw_m7 74 rfl) rfl
theorem q1907 : (Jvm.Cond.methodLink "WasteHouse$Room" (1 : Nat) ({ cls := "java/lang/Object", name := "<init>", desc := "()V" } : Jvm.MethodName)) ∈ lw_all := lw_g (lw_at lw_m7 75 rfl) rfl
theorem q1908 : (Jvm.Cond.classLink "WasteHouse$Room" (7 : Nat) "java/util/ArrayList") ∈ lw_all := lw_g (lw_at lw_m7 76 rfl) rfl
theorem q1909 : (Jvm.Cond.methodLink "WasteHouse$Room" (9 : Nat) ({ cls := "java/util/ArrayList", name := "<init>", desc := "()V" } : Jvm.MethodName)) ∈ lw_all := lw_g (lw_at lw_m7 77 rfl) rfl
theorem q1936 : (Jvm.Cond.declares ({ cls := "WasteHouse$Room", name := "add", desc := "(Ljava/lang/String;Ljava/lang/String;)V" } : Jvm.MethodName)) ∈ lw_tbl := lw_at lw_m7 104 rfl
theorem q1938 : (Jvm.Cond.instanceMethod ({ cls := "WasteHouse$Room", name := "add", desc := "(Ljava/lang/String;Ljava/lang/String;)V" } : Jvm.MethodName)) ∈ lw_all := lw_g (lw_at lw_m7 106 rfl) rfl
theorem q1939 : (Jvm.Cond.code ({ cls := "WasteHouse$Room", name := "add", desc := "(Ljava/lang/String;Ljava/lang/String;)V" } : Jvm.MethodName) prog_35_method_2_code (3 : Nat) (Option.none : Option Jvm.ClassFile.FieldType)) ∈ lw_all := lw_g (lw_at lw_m7 107 rfl) rfl
theorem q1940 : (Jvm.Cond.methodLink "WasteHouse$Room" (23 : Nat) ({ cls := "java/util/ArrayList", name := "add", desc := "(Ljava/lang/Object;)Z" } : Jvm.MethodName)) ∈ lw_all := lw_g (lw_at lw_m7 108 rfl) rfl
theorem q2104 : (Jvm.Cond.fieldLink "WasteHouse$Room" (19 : Nat) "WasteHouse$Room" "name" "Ljava/lang/String;") ∈ lw_all := lw_g (lw_at lw_m8 32 rfl) rfl
theorem q2106 : (Jvm.Cond.fieldLink "WasteHouse$Room" (10 : Nat) "WasteHouse$Room" "words" "Ljava/util/ArrayList;") ∈ lw_all := lw_g (lw_at lw_m8 34 rfl) rfl
theorem q2107 : (Jvm.Cond.fieldLink "WasteHouse$Room" (16 : Nat) "WasteHouse$Room" "needs" "Ljava/util/ArrayList;") ∈ lw_all := lw_g (lw_at lw_m8 35 rfl) rfl
theorem q2135 : (Jvm.Cond.soleField "WasteHouse$Room" "name") ∈ lw_all := lw_g (lw_at lw_m8 63 rfl) rfl
theorem q2137 : (Jvm.Cond.soleField "WasteHouse$Room" "words") ∈ lw_all := lw_g (lw_at lw_m8 65 rfl) rfl
theorem q2139 : (Jvm.Cond.soleField "WasteHouse$Room" "needs") ∈ lw_all := lw_g (lw_at lw_m8 67 rfl) rfl
theorem q3055 : (Jvm.Cond.instanceMethod ({ cls := "WasteHouse$Room", name := "find", desc := "(Ljava/lang/String;)I" } : Jvm.MethodName)) ∈ lw_all := lw_g (lw_at lw_m12 23 rfl) rfl
theorem q3056 : (Jvm.Cond.sameMethod "WasteHouse$Room" "WasteHouse$Room" "find" "(Ljava/lang/String;)I") ∈ lw_all := lw_g (lw_at lw_m12 24 rfl) rfl
theorem q3067 : (Jvm.Cond.code ({ cls := "WasteHouse$Room", name := "find", desc := "(Ljava/lang/String;)I" } : Jvm.MethodName) prog_35_method_3_code (2 : Nat) (Option.some Jvm.ClassFile.FieldType.int)) ∈ lw_all := lw_g (lw_at lw_m12 35 rfl) rfl
theorem q3068 : (Jvm.Cond.methodLink "WasteHouse$Room" (27 : Nat) ({ cls := "java/util/ArrayList", name := "indexOf", desc := "(Ljava/lang/Object;)I" } : Jvm.MethodName)) ∈ lw_all := lw_g (lw_at lw_m12 36 rfl) rfl
theorem q3169 : (Jvm.Cond.instanceMethod ({ cls := "WasteHouse$Room", name := "need", desc := "(I)Ljava/lang/String;" } : Jvm.MethodName)) ∈ lw_all := lw_g (lw_at lw_m12 137 rfl) rfl
theorem q3170 : (Jvm.Cond.sameMethod "WasteHouse$Room" "WasteHouse$Room" "need" "(I)Ljava/lang/String;") ∈ lw_all := lw_g (lw_at lw_m12 138 rfl) rfl
theorem q3181 : (Jvm.Cond.code ({ cls := "WasteHouse$Room", name := "need", desc := "(I)Ljava/lang/String;" } : Jvm.MethodName) prog_35_method_4_code (2 : Nat) (Option.some (Jvm.ClassFile.FieldType.object "java/lang/String"))) ∈ lw_all := lw_g (lw_at lw_m12 149 rfl) rfl
theorem q3182 : (Jvm.Cond.methodLink "WasteHouse$Room" (31 : Nat) ({ cls := "java/util/ArrayList", name := "get", desc := "(I)Ljava/lang/Object;" } : Jvm.MethodName)) ∈ lw_all := lw_g (lw_at lw_m12 150 rfl) rfl
theorem q3194 : (Jvm.Cond.classLink "WasteHouse$Room" (35 : Nat) "java/lang/String") ∈ lw_all := lw_g (lw_at lw_m12 162 rfl) rfl
theorem q3260 : (Jvm.Cond.declares ({ cls := "WasteHouse$Room", name := "call", desc := "(I[J)J" } : Jvm.MethodName)) ∈ lw_tbl := lw_at lw_m12 228 rfl
theorem q3261 : (Jvm.Cond.sameMethod "WasteHouse$Room" "WasteHouse$Room" "call" "(I[J)J") ∈ lw_all := lw_g (lw_at lw_m12 229 rfl) rfl
theorem q3289 : (Jvm.Cond.static ({ cls := "WasteHouse$Room", name := "bit", desc := "(Z)J" } : Jvm.MethodName)) ∈ lw_all := lw_g (lw_at lw_m13 17 rfl) rfl
theorem q3290 : (Jvm.Cond.code ({ cls := "WasteHouse$Room", name := "bit", desc := "(Z)J" } : Jvm.MethodName) prog_35_method_6_code (1 : Nat) (Option.some Jvm.ClassFile.FieldType.long)) ∈ lw_all := lw_g (lw_at lw_m13 18 rfl) rfl
