/-! WasteHouse$ApartCost$Steps -/
set_option maxRecDepth 100000
def RX29 : String := "WasteHouse$ApartCost$Steps"
def TX29 : u_T := fun k => match k with
  | _ => ("WasteHouse$ApartCost$Steps", "cents", "[I", true)
def tyX29 : Nat → FieldType := fun k => match k with
  | _ => .array .int
abbrev wsX290 : List Cond := u_ws RX29 TX29 1
theorem nmX29 : ∀ a, a < 1 → ∀ b, b < 1 → a ≠ b → (TX29 a).2.1 ≠ (TX29 b).2.1 := by decide +kernel
theorem tyX29_ok : ∀ k, k < 1 → parseFieldDescriptor (TX29 k).2.2.1 = some (tyX29 k) := by decide +kernel
abbrev cX29_init : ByteArray := prog_4_method_1_code
def yX29_init : MethodName := ⟨RX29, "<init>", "()V"⟩
def dkwX29_init_0 : List UInt8 := [42, 183, 0, 3, 42, 16, 36, 188, 10, 181, 0, 9, 177]
abbrev dktX29_init_0 : List UInt8 := dkwX29_init_0 ++ []
theorem dksX29_init_0 : cX29_init.data.toList.drop 0 = dktX29_init_0 := by decide +kernel
theorem dX29_init_0 : decode cX29_init 0 = .ok (.aload_n 0, 1) := dk_42 (dk_at dksX29_init_0 0 rfl rfl)
theorem dX29_init_1 : decode cX29_init 1 = .ok (.invokespecial 3, 3) := dk_183 0 3 (dk_at dksX29_init_0 1 rfl rfl)
theorem dX29_init_4 : decode cX29_init 4 = .ok (.aload_n 0, 1) := dk_42 (dk_at dksX29_init_0 4 rfl rfl)
theorem dX29_init_5 : decode cX29_init 5 = .ok (.bipush 36, 2) := dk_16 36 (dk_at dksX29_init_0 5 rfl rfl)
theorem dX29_init_7 : decode cX29_init 7 = .ok (.newarray .int, 2) := dk_188_10 (dk_at dksX29_init_0 7 rfl rfl)
theorem dX29_init_9 : decode cX29_init 9 = .ok (.putfield 9, 3) := dk_181 0 9 (dk_at dksX29_init_0 9 rfl rfl)
theorem dX29_init_12 : decode cX29_init 12 = .ok (.return_, 1) := dk_177 (dk_at dksX29_init_0 12 rfl rfl)
abbrev cX29_isWay : ByteArray := prog_4_method_3_code
def yX29_isWay : MethodName := ⟨RX29, "isWay", "(I)Z"⟩
def dkwX29_isWay_0 : List UInt8 := [26, 155, 0, 13, 26, 16, 6, 162, 0, 7, 4, 167, 0, 4, 3, 172]
abbrev dktX29_isWay_0 : List UInt8 := dkwX29_isWay_0 ++ []
theorem dksX29_isWay_0 : cX29_isWay.data.toList.drop 0 = dktX29_isWay_0 := by decide +kernel
theorem dX29_isWay_0 : decode cX29_isWay 0 = .ok (.iload_n 0, 1) := dk_26 (dk_at dksX29_isWay_0 0 rfl rfl)
theorem dX29_isWay_1 : decode cX29_isWay 1 = .ok (.ifCond .lt 13, 3) := dk_155 0 13 (dk_at dksX29_isWay_0 1 rfl rfl)
theorem dX29_isWay_4 : decode cX29_isWay 4 = .ok (.iload_n 0, 1) := dk_26 (dk_at dksX29_isWay_0 4 rfl rfl)
theorem dX29_isWay_5 : decode cX29_isWay 5 = .ok (.bipush 6, 2) := dk_16 6 (dk_at dksX29_isWay_0 5 rfl rfl)
theorem dX29_isWay_7 : decode cX29_isWay 7 = .ok (.if_icmp .ge 7, 3) := dk_162 0 7 (dk_at dksX29_isWay_0 7 rfl rfl)
theorem dX29_isWay_10 : decode cX29_isWay 10 = .ok (.iconst 1, 1) := dk_4 (dk_at dksX29_isWay_0 10 rfl rfl)
theorem dX29_isWay_11 : decode cX29_isWay 11 = .ok (.goto 4, 3) := dk_167 0 4 (dk_at dksX29_isWay_0 11 rfl rfl)
theorem dX29_isWay_14 : decode cX29_isWay 14 = .ok (.iconst 0, 1) := dk_3 (dk_at dksX29_isWay_0 14 rfl rfl)
theorem dX29_isWay_15 : decode cX29_isWay 15 = .ok (.ireturn, 1) := dk_172 (dk_at dksX29_isWay_0 15 rfl rfl)
abbrev cX29_tell : ByteArray := prog_4_method_2_code
def yX29_tell : MethodName := ⟨RX29, "tell", "(IIJ)Z"⟩
def dkwX29_tell_2 : List UInt8 := [136, 79, 4, 172]
abbrev dktX29_tell_2 : List UInt8 := dkwX29_tell_2 ++ []
def dkwX29_tell_1 : List UInt8 := [155, 0, 11, 33, 20, 0, 19, 148, 158, 0, 5, 3, 172, 42, 180, 0, 9, 16, 6, 27, 104, 28, 96, 33]
abbrev dktX29_tell_1 : List UInt8 := dkwX29_tell_1 ++ dktX29_tell_2
def dkwX29_tell_0 : List UInt8 := [27, 184, 0, 15, 153, 0, 29, 28, 184, 0, 15, 153, 0, 22, 27, 28, 159, 0, 17, 33, 9, 148]
abbrev dktX29_tell_0 : List UInt8 := dkwX29_tell_0 ++ dktX29_tell_1
theorem dksX29_tell_0 : cX29_tell.data.toList.drop 0 = dktX29_tell_0 := by decide +kernel
theorem dksX29_tell_1 : cX29_tell.data.toList.drop 22 = dktX29_tell_1 := dk_seg dksX29_tell_0 22 rfl rfl
theorem dksX29_tell_2 : cX29_tell.data.toList.drop 46 = dktX29_tell_2 := dk_seg dksX29_tell_1 24 rfl rfl
theorem dX29_tell_0 : decode cX29_tell 0 = .ok (.iload_n 1, 1) := dk_27 (dk_at dksX29_tell_0 0 rfl rfl)
theorem dX29_tell_1 : decode cX29_tell 1 = .ok (.invokestatic 15, 3) := dk_184 0 15 (dk_at dksX29_tell_0 1 rfl rfl)
theorem dX29_tell_4 : decode cX29_tell 4 = .ok (.ifCond .eq 29, 3) := dk_153 0 29 (dk_at dksX29_tell_0 4 rfl rfl)
theorem dX29_tell_7 : decode cX29_tell 7 = .ok (.iload_n 2, 1) := dk_28 (dk_at dksX29_tell_0 7 rfl rfl)
theorem dX29_tell_8 : decode cX29_tell 8 = .ok (.invokestatic 15, 3) := dk_184 0 15 (dk_at dksX29_tell_0 8 rfl rfl)
theorem dX29_tell_11 : decode cX29_tell 11 = .ok (.ifCond .eq 22, 3) := dk_153 0 22 (dk_at dksX29_tell_0 11 rfl rfl)
theorem dX29_tell_14 : decode cX29_tell 14 = .ok (.iload_n 1, 1) := dk_27 (dk_at dksX29_tell_0 14 rfl rfl)
theorem dX29_tell_15 : decode cX29_tell 15 = .ok (.iload_n 2, 1) := dk_28 (dk_at dksX29_tell_0 15 rfl rfl)
theorem dX29_tell_16 : decode cX29_tell 16 = .ok (.if_icmp .eq 17, 3) := dk_159 0 17 (dk_at dksX29_tell_0 16 rfl rfl)
theorem dX29_tell_19 : decode cX29_tell 19 = .ok (.lload_n 3, 1) := dk_33 (dk_at dksX29_tell_0 19 rfl rfl)
theorem dX29_tell_20 : decode cX29_tell 20 = .ok (.lconst 0, 1) := dk_9 (dk_at dksX29_tell_0 20 rfl rfl)
theorem dX29_tell_21 : decode cX29_tell 21 = .ok (.lcmp, 1) := dk_148 (dk_at dksX29_tell_0 21 rfl rfl)
theorem dX29_tell_22 : decode cX29_tell 22 = .ok (.ifCond .lt 11, 3) := dk_155 0 11 (dk_at dksX29_tell_1 0 rfl rfl)
theorem dX29_tell_25 : decode cX29_tell 25 = .ok (.lload_n 3, 1) := dk_33 (dk_at dksX29_tell_1 3 rfl rfl)
theorem dX29_tell_26 : decode cX29_tell 26 = .ok (.ldc2_w 19, 3) := dk_20 0 19 (dk_at dksX29_tell_1 4 rfl rfl)
theorem dX29_tell_29 : decode cX29_tell 29 = .ok (.lcmp, 1) := dk_148 (dk_at dksX29_tell_1 7 rfl rfl)
theorem dX29_tell_30 : decode cX29_tell 30 = .ok (.ifCond .le 5, 3) := dk_158 0 5 (dk_at dksX29_tell_1 8 rfl rfl)
theorem dX29_tell_33 : decode cX29_tell 33 = .ok (.iconst 0, 1) := dk_3 (dk_at dksX29_tell_1 11 rfl rfl)
theorem dX29_tell_34 : decode cX29_tell 34 = .ok (.ireturn, 1) := dk_172 (dk_at dksX29_tell_1 12 rfl rfl)
theorem dX29_tell_35 : decode cX29_tell 35 = .ok (.aload_n 0, 1) := dk_42 (dk_at dksX29_tell_1 13 rfl rfl)
theorem dX29_tell_36 : decode cX29_tell 36 = .ok (.getfield 9, 3) := dk_180 0 9 (dk_at dksX29_tell_1 14 rfl rfl)
theorem dX29_tell_39 : decode cX29_tell 39 = .ok (.bipush 6, 2) := dk_16 6 (dk_at dksX29_tell_1 17 rfl rfl)
theorem dX29_tell_41 : decode cX29_tell 41 = .ok (.iload_n 1, 1) := dk_27 (dk_at dksX29_tell_1 19 rfl rfl)
theorem dX29_tell_42 : decode cX29_tell 42 = .ok (.imul, 1) := dk_104 (dk_at dksX29_tell_1 20 rfl rfl)
theorem dX29_tell_43 : decode cX29_tell 43 = .ok (.iload_n 2, 1) := dk_28 (dk_at dksX29_tell_1 21 rfl rfl)
theorem dX29_tell_44 : decode cX29_tell 44 = .ok (.iadd, 1) := dk_96 (dk_at dksX29_tell_1 22 rfl rfl)
theorem dX29_tell_45 : decode cX29_tell 45 = .ok (.lload_n 3, 1) := dk_33 (dk_at dksX29_tell_1 23 rfl rfl)
theorem dX29_tell_46 : decode cX29_tell 46 = .ok (.l2i, 1) := dk_136 (dk_at dksX29_tell_2 0 rfl rfl)
theorem dX29_tell_47 : decode cX29_tell 47 = .ok (.iastore, 1) := dk_79 (dk_at dksX29_tell_2 1 rfl rfl)
theorem dX29_tell_48 : decode cX29_tell 48 = .ok (.iconst 1, 1) := dk_4 (dk_at dksX29_tell_2 2 rfl rfl)
theorem dX29_tell_49 : decode cX29_tell 49 = .ok (.ireturn, 1) := dk_172 (dk_at dksX29_tell_2 3 rfl rfl)
abbrev cX29_cost : ByteArray := prog_4_method_4_code
def yX29_cost : MethodName := ⟨RX29, "cost", "(II)I"⟩
def dkwX29_cost_0 : List UInt8 := [42, 180, 0, 9, 16, 6, 27, 104, 28, 96, 46, 172]
abbrev dktX29_cost_0 : List UInt8 := dkwX29_cost_0 ++ []
theorem dksX29_cost_0 : cX29_cost.data.toList.drop 0 = dktX29_cost_0 := by decide +kernel
theorem dX29_cost_0 : decode cX29_cost 0 = .ok (.aload_n 0, 1) := dk_42 (dk_at dksX29_cost_0 0 rfl rfl)
theorem dX29_cost_1 : decode cX29_cost 1 = .ok (.getfield 9, 3) := dk_180 0 9 (dk_at dksX29_cost_0 1 rfl rfl)
theorem dX29_cost_4 : decode cX29_cost 4 = .ok (.bipush 6, 2) := dk_16 6 (dk_at dksX29_cost_0 4 rfl rfl)
theorem dX29_cost_6 : decode cX29_cost 6 = .ok (.iload_n 1, 1) := dk_27 (dk_at dksX29_cost_0 6 rfl rfl)
theorem dX29_cost_7 : decode cX29_cost 7 = .ok (.imul, 1) := dk_104 (dk_at dksX29_cost_0 7 rfl rfl)
theorem dX29_cost_8 : decode cX29_cost 8 = .ok (.iload_n 2, 1) := dk_28 (dk_at dksX29_cost_0 8 rfl rfl)
theorem dX29_cost_9 : decode cX29_cost 9 = .ok (.iadd, 1) := dk_96 (dk_at dksX29_cost_0 9 rfl rfl)
theorem dX29_cost_10 : decode cX29_cost 10 = .ok (.iaload, 1) := dk_46 (dk_at dksX29_cost_0 10 rfl rfl)
theorem dX29_cost_11 : decode cX29_cost 11 = .ok (.ireturn, 1) := dk_172 (dk_at dksX29_cost_0 11 rfl rfl)
theorem q428 : (Jvm.Cond.initialized "WasteHouse$ApartCost$Steps") ∈ lw_all := lw_g (lw_at lw_m1 36 rfl) rfl
theorem q1534 : (Jvm.Cond.instantiable "WasteHouse$ApartCost$Steps" (1 : Nat)) ∈ lw_all := lw_g (lw_at lw_m5 182 rfl) rfl
theorem q1536 : (Jvm.Cond.instanceMethod ({ cls := "WasteHouse$ApartCost$Steps", name := "<init>", desc := "()V" } : Jvm.MethodName)) ∈ lw_all := lw_g (lw_at lw_m5 184 rfl) rfl
theorem q1537 : (Jvm.Cond.code ({ cls := "WasteHouse$ApartCost$Steps", name := "<init>", desc := "()V" } : Jvm.MethodName) prog_4_method_1_code (1 : Nat) (Option.none : Option Jvm.ClassFile.FieldType)) ∈ lw_all := lw_g (lw_at lw_m5 185 rfl) rfl
theorem q1538 : (Jvm.Cond.methodLink "WasteHouse$ApartCost$Steps" (3 : Nat) ({ cls := "java/lang/Object", name := "<init>", desc := "()V" } : Jvm.MethodName)) ∈ lw_all := lw_g (lw_at lw_m5 186 rfl) rfl
theorem q1539 : (Jvm.Cond.fieldLink "WasteHouse$ApartCost$Steps" (9 : Nat) "WasteHouse$ApartCost$Steps" "cents" "[I") ∈ lw_all := lw_g (lw_at lw_m5 187 rfl) rfl
theorem q1540 : (Jvm.Cond.laysFinal "WasteHouse$ApartCost$Steps" "WasteHouse$ApartCost$Steps" "cents" "[I") ∈ lw_all := lw_g (lw_at lw_m5 188 rfl) rfl
theorem q1541 : (Jvm.Cond.soleField "WasteHouse$ApartCost$Steps" "cents") ∈ lw_all := lw_g (lw_at lw_m5 189 rfl) rfl
theorem q1542 : (Jvm.Cond.superclass "WasteHouse$ApartCost$Steps" "java/lang/Object") ∈ lw_all := lw_g (lw_at lw_m5 190 rfl) rfl
theorem q1975 : (Jvm.Cond.selects "WasteHouse$ApartCost$Steps" ({ cls := "java/lang/Object", name := "getClass", desc := "()Ljava/lang/Class;" } : Jvm.MethodName) ({ cls := "java/lang/Object", name := "getClass", desc := "()Ljava/lang/Class;" } : Jvm.MethodName)) ∈ lw_all := lw_g (lw_at lw_m7 143 rfl) rfl
theorem q3083 : (Jvm.Cond.selects "WasteHouse$ApartCost$Steps" ({ cls := "java/lang/Object", name := "equals", desc := "(Ljava/lang/Object;)Z" } : Jvm.MethodName) ({ cls := "java/lang/Object", name := "equals", desc := "(Ljava/lang/Object;)Z" } : Jvm.MethodName)) ∈ lw_all := lw_g (lw_at lw_m12 51 rfl) rfl
theorem q3273 : (Jvm.Cond.static ({ cls := "WasteHouse$ApartCost$Steps", name := "isWay", desc := "(I)Z" } : Jvm.MethodName)) ∈ lw_all := lw_g (lw_at lw_m13 1 rfl) rfl
theorem q3274 : (Jvm.Cond.code ({ cls := "WasteHouse$ApartCost$Steps", name := "isWay", desc := "(I)Z" } : Jvm.MethodName) prog_4_method_3_code (1 : Nat) (Option.some Jvm.ClassFile.FieldType.boolean)) ∈ lw_all := lw_g (lw_at lw_m13 2 rfl) rfl
theorem q3296 : (Jvm.Cond.instanceMethod ({ cls := "WasteHouse$ApartCost$Steps", name := "tell", desc := "(IIJ)Z" } : Jvm.MethodName)) ∈ lw_all := lw_g (lw_at lw_m13 24 rfl) rfl
theorem q3297 : (Jvm.Cond.selects "WasteHouse$ApartCost$Steps" ({ cls := "WasteHouse$ApartCost$Steps", name := "tell", desc := "(IIJ)Z" } : Jvm.MethodName) ({ cls := "WasteHouse$ApartCost$Steps", name := "tell", desc := "(IIJ)Z" } : Jvm.MethodName)) ∈ lw_all := lw_g (lw_at lw_m13 25 rfl) rfl
theorem q3298 : (Jvm.Cond.code ({ cls := "WasteHouse$ApartCost$Steps", name := "tell", desc := "(IIJ)Z" } : Jvm.MethodName) prog_4_method_2_code (5 : Nat) (Option.some Jvm.ClassFile.FieldType.boolean)) ∈ lw_all := lw_g (lw_at lw_m13 26 rfl) rfl
theorem q3299 : (Jvm.Cond.methodLink "WasteHouse$ApartCost$Steps" (15 : Nat) ({ cls := "WasteHouse$ApartCost$Steps", name := "isWay", desc := "(I)Z" } : Jvm.MethodName)) ∈ lw_all := lw_g (lw_at lw_m13 27 rfl) rfl
theorem q3300 : (Jvm.Cond.constantLong "WasteHouse$ApartCost$Steps" (19 : Nat) (1000000 : Int64)) ∈ lw_all := lw_g (lw_at lw_m13 28 rfl) rfl
theorem q3383 : (Jvm.Cond.instanceMethod ({ cls := "WasteHouse$ApartCost$Steps", name := "cost", desc := "(II)I" } : Jvm.MethodName)) ∈ lw_all := lw_g (lw_at lw_m13 111 rfl) rfl
theorem q3384 : (Jvm.Cond.selects "WasteHouse$ApartCost$Steps" ({ cls := "WasteHouse$ApartCost$Steps", name := "cost", desc := "(II)I" } : Jvm.MethodName) ({ cls := "WasteHouse$ApartCost$Steps", name := "cost", desc := "(II)I" } : Jvm.MethodName)) ∈ lw_all := lw_g (lw_at lw_m13 112 rfl) rfl
theorem q3385 : (Jvm.Cond.code ({ cls := "WasteHouse$ApartCost$Steps", name := "cost", desc := "(II)I" } : Jvm.MethodName) prog_4_method_4_code (3 : Nat) (Option.some Jvm.ClassFile.FieldType.int)) ∈ lw_all := lw_g (lw_at lw_m13 113 rfl) rfl
theorem q3598 : (Jvm.Cond.selects "WasteHouse$ApartCost$Steps" ({ cls := "java/lang/Object", name := "hashCode", desc := "()I" } : Jvm.MethodName) ({ cls := "java/lang/Object", name := "hashCode", desc := "()I" } : Jvm.MethodName)) ∈ lw_all := lw_g (lw_at lw_m14 86 rfl) rfl
theorem q9653 : (Jvm.Cond.castable "WasteHouse$ApartCost$Steps" "java/lang/Object") ∈ lw_tbl := lw_at lw_m39 141 rfl
theorem in_X29 : ∀ w ∈ wsX290, w ∈ lw_all := lw_in wsX290 [1540] (by decide +kernel) (by decide +kernel)
