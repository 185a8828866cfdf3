/-! WasteHouse$TicketChain$Writer -/
set_option maxRecDepth 100000
def RX6 : String := "WasteHouse$TicketChain$Writer"
def TX6 : u_T := fun k => match k with
  | 0 => ("WasteHouse$TicketChain$Writer", "row", "[B", false)
  | _ => ("WasteHouse$TicketChain$Writer", "at", "I", false)
def tyX6 : Nat → FieldType := fun k => match k with
  | 0 => .array .byte
  | _ => .int
abbrev wsX60 : List Cond := u_ws RX6 TX6 2
theorem nmX6 : ∀ a, a < 2 → ∀ b, b < 2 → a ≠ b → (TX6 a).2.1 ≠ (TX6 b).2.1 := by decide +kernel
theorem tyX6_ok : ∀ k, k < 2 → parseFieldDescriptor (TX6 k).2.2.1 = some (tyX6 k) := by decide +kernel
abbrev cX6_init : ByteArray := prog_53_method_1_code
def yX6_init : MethodName := ⟨RX6, "<init>", "()V"⟩
theorem dX6_init_0 : decode cX6_init 0 = .ok (.aload_n 0, 1) := by decide +kernel
theorem dX6_init_1 : decode cX6_init 1 = .ok (.invokespecial 1, 3) := by decide +kernel
theorem dX6_init_4 : decode cX6_init 4 = .ok (.return_, 1) := by decide +kernel
abbrev cX6_begin : ByteArray := prog_53_method_2_code
def yX6_begin : MethodName := ⟨RX6, "begin", "([BII)V"⟩
def dkwX6_begin_1 : List UInt8 := [181, 0, 13, 28, 145, 84, 42, 29, 182, 0, 17, 177]
abbrev dktX6_begin_1 : List UInt8 := dkwX6_begin_1 ++ []
def dkwX6_begin_0 : List UInt8 := [42, 43, 181, 0, 7, 42, 3, 181, 0, 13, 42, 180, 0, 7, 42, 89, 180, 0, 13, 90, 4, 96]
abbrev dktX6_begin_0 : List UInt8 := dkwX6_begin_0 ++ dktX6_begin_1
theorem dksX6_begin_0 : cX6_begin.data.toList.drop 0 = dktX6_begin_0 := by decide +kernel
theorem dksX6_begin_1 : cX6_begin.data.toList.drop 22 = dktX6_begin_1 := dk_seg dksX6_begin_0 22 rfl rfl
theorem dX6_begin_0 : decode cX6_begin 0 = .ok (.aload_n 0, 1) := dk_42 (dk_at dksX6_begin_0 0 rfl rfl)
theorem dX6_begin_1 : decode cX6_begin 1 = .ok (.aload_n 1, 1) := dk_43 (dk_at dksX6_begin_0 1 rfl rfl)
theorem dX6_begin_2 : decode cX6_begin 2 = .ok (.putfield 7, 3) := dk_181 0 7 (dk_at dksX6_begin_0 2 rfl rfl)
theorem dX6_begin_5 : decode cX6_begin 5 = .ok (.aload_n 0, 1) := dk_42 (dk_at dksX6_begin_0 5 rfl rfl)
theorem dX6_begin_6 : decode cX6_begin 6 = .ok (.iconst 0, 1) := dk_3 (dk_at dksX6_begin_0 6 rfl rfl)
theorem dX6_begin_7 : decode cX6_begin 7 = .ok (.putfield 13, 3) := dk_181 0 13 (dk_at dksX6_begin_0 7 rfl rfl)
theorem dX6_begin_10 : decode cX6_begin 10 = .ok (.aload_n 0, 1) := dk_42 (dk_at dksX6_begin_0 10 rfl rfl)
theorem dX6_begin_11 : decode cX6_begin 11 = .ok (.getfield 7, 3) := dk_180 0 7 (dk_at dksX6_begin_0 11 rfl rfl)
theorem dX6_begin_14 : decode cX6_begin 14 = .ok (.aload_n 0, 1) := dk_42 (dk_at dksX6_begin_0 14 rfl rfl)
theorem dX6_begin_15 : decode cX6_begin 15 = .ok (.dup, 1) := dk_89 (dk_at dksX6_begin_0 15 rfl rfl)
theorem dX6_begin_16 : decode cX6_begin 16 = .ok (.getfield 13, 3) := dk_180 0 13 (dk_at dksX6_begin_0 16 rfl rfl)
theorem dX6_begin_19 : decode cX6_begin 19 = .ok (.dup_x1, 1) := dk_90 (dk_at dksX6_begin_0 19 rfl rfl)
theorem dX6_begin_20 : decode cX6_begin 20 = .ok (.iconst 1, 1) := dk_4 (dk_at dksX6_begin_0 20 rfl rfl)
theorem dX6_begin_21 : decode cX6_begin 21 = .ok (.iadd, 1) := dk_96 (dk_at dksX6_begin_0 21 rfl rfl)
theorem dX6_begin_22 : decode cX6_begin 22 = .ok (.putfield 13, 3) := dk_181 0 13 (dk_at dksX6_begin_1 0 rfl rfl)
theorem dX6_begin_25 : decode cX6_begin 25 = .ok (.iload_n 2, 1) := dk_28 (dk_at dksX6_begin_1 3 rfl rfl)
theorem dX6_begin_26 : decode cX6_begin 26 = .ok (.i2b, 1) := dk_145 (dk_at dksX6_begin_1 4 rfl rfl)
theorem dX6_begin_27 : decode cX6_begin 27 = .ok (.bastore, 1) := dk_84 (dk_at dksX6_begin_1 5 rfl rfl)
theorem dX6_begin_28 : decode cX6_begin 28 = .ok (.aload_n 0, 1) := dk_42 (dk_at dksX6_begin_1 6 rfl rfl)
theorem dX6_begin_29 : decode cX6_begin 29 = .ok (.iload_n 3, 1) := dk_29 (dk_at dksX6_begin_1 7 rfl rfl)
theorem dX6_begin_30 : decode cX6_begin 30 = .ok (.invokevirtual 17, 3) := dk_182 0 17 (dk_at dksX6_begin_1 8 rfl rfl)
theorem dX6_begin_33 : decode cX6_begin 33 = .ok (.return_, 1) := dk_177 (dk_at dksX6_begin_1 11 rfl rfl)
abbrev cX6_four : ByteArray := prog_53_method_3_code
def yX6_four : MethodName := ⟨RX6, "four", "(I)V"⟩
def dkwX6_four_1 : List UInt8 := [122, 145, 84, 132, 2, 248, 167, 255, 229, 177]
abbrev dktX6_four_1 : List UInt8 := dkwX6_four_1 ++ []
def dkwX6_four_0 : List UInt8 := [16, 24, 61, 28, 155, 0, 29, 42, 180, 0, 7, 42, 89, 180, 0, 13, 90, 4, 96, 181, 0, 13, 27, 28]
abbrev dktX6_four_0 : List UInt8 := dkwX6_four_0 ++ dktX6_four_1
theorem dksX6_four_0 : cX6_four.data.toList.drop 0 = dktX6_four_0 := by decide +kernel
theorem dksX6_four_1 : cX6_four.data.toList.drop 24 = dktX6_four_1 := dk_seg dksX6_four_0 24 rfl rfl
theorem dX6_four_0 : decode cX6_four 0 = .ok (.bipush 24, 2) := dk_16 24 (dk_at dksX6_four_0 0 rfl rfl)
theorem dX6_four_2 : decode cX6_four 2 = .ok (.istore_n 2, 1) := dk_61 (dk_at dksX6_four_0 2 rfl rfl)
theorem dX6_four_3 : decode cX6_four 3 = .ok (.iload_n 2, 1) := dk_28 (dk_at dksX6_four_0 3 rfl rfl)
theorem dX6_four_4 : decode cX6_four 4 = .ok (.ifCond .lt 29, 3) := dk_155 0 29 (dk_at dksX6_four_0 4 rfl rfl)
theorem dX6_four_7 : decode cX6_four 7 = .ok (.aload_n 0, 1) := dk_42 (dk_at dksX6_four_0 7 rfl rfl)
theorem dX6_four_8 : decode cX6_four 8 = .ok (.getfield 7, 3) := dk_180 0 7 (dk_at dksX6_four_0 8 rfl rfl)
theorem dX6_four_11 : decode cX6_four 11 = .ok (.aload_n 0, 1) := dk_42 (dk_at dksX6_four_0 11 rfl rfl)
theorem dX6_four_12 : decode cX6_four 12 = .ok (.dup, 1) := dk_89 (dk_at dksX6_four_0 12 rfl rfl)
theorem dX6_four_13 : decode cX6_four 13 = .ok (.getfield 13, 3) := dk_180 0 13 (dk_at dksX6_four_0 13 rfl rfl)
theorem dX6_four_16 : decode cX6_four 16 = .ok (.dup_x1, 1) := dk_90 (dk_at dksX6_four_0 16 rfl rfl)
theorem dX6_four_17 : decode cX6_four 17 = .ok (.iconst 1, 1) := dk_4 (dk_at dksX6_four_0 17 rfl rfl)
theorem dX6_four_18 : decode cX6_four 18 = .ok (.iadd, 1) := dk_96 (dk_at dksX6_four_0 18 rfl rfl)
theorem dX6_four_19 : decode cX6_four 19 = .ok (.putfield 13, 3) := dk_181 0 13 (dk_at dksX6_four_0 19 rfl rfl)
theorem dX6_four_22 : decode cX6_four 22 = .ok (.iload_n 1, 1) := dk_27 (dk_at dksX6_four_0 22 rfl rfl)
theorem dX6_four_23 : decode cX6_four 23 = .ok (.iload_n 2, 1) := dk_28 (dk_at dksX6_four_0 23 rfl rfl)
theorem dX6_four_24 : decode cX6_four 24 = .ok (.ishr, 1) := dk_122 (dk_at dksX6_four_1 0 rfl rfl)
theorem dX6_four_25 : decode cX6_four 25 = .ok (.i2b, 1) := dk_145 (dk_at dksX6_four_1 1 rfl rfl)
theorem dX6_four_26 : decode cX6_four 26 = .ok (.bastore, 1) := dk_84 (dk_at dksX6_four_1 2 rfl rfl)
theorem dX6_four_27 : decode cX6_four 27 = .ok (.iinc 2 (-8), 3) := dk_132 2 248 (dk_at dksX6_four_1 3 rfl rfl)
theorem dX6_four_30 : decode cX6_four 30 = .ok (.goto (-27), 3) := dk_167 255 229 (dk_at dksX6_four_1 6 rfl rfl)
theorem dX6_four_33 : decode cX6_four 33 = .ok (.return_, 1) := dk_177 (dk_at dksX6_four_1 9 rfl rfl)
abbrev cX6_eight : ByteArray := prog_53_method_4_code
def yX6_eight : MethodName := ⟨RX6, "eight", "(J)V"⟩
def dkwX6_eight_0 : List UInt8 := [42, 31, 16, 32, 123, 136, 182, 0, 17, 42, 31, 136, 182, 0, 17, 177]
abbrev dktX6_eight_0 : List UInt8 := dkwX6_eight_0 ++ []
theorem dksX6_eight_0 : cX6_eight.data.toList.drop 0 = dktX6_eight_0 := by decide +kernel
theorem dX6_eight_0 : decode cX6_eight 0 = .ok (.aload_n 0, 1) := dk_42 (dk_at dksX6_eight_0 0 rfl rfl)
theorem dX6_eight_1 : decode cX6_eight 1 = .ok (.lload_n 1, 1) := dk_31 (dk_at dksX6_eight_0 1 rfl rfl)
theorem dX6_eight_2 : decode cX6_eight 2 = .ok (.bipush 32, 2) := dk_16 32 (dk_at dksX6_eight_0 2 rfl rfl)
theorem dX6_eight_4 : decode cX6_eight 4 = .ok (.lshr, 1) := dk_123 (dk_at dksX6_eight_0 4 rfl rfl)
theorem dX6_eight_5 : decode cX6_eight 5 = .ok (.l2i, 1) := dk_136 (dk_at dksX6_eight_0 5 rfl rfl)
theorem dX6_eight_6 : decode cX6_eight 6 = .ok (.invokevirtual 17, 3) := dk_182 0 17 (dk_at dksX6_eight_0 6 rfl rfl)
theorem dX6_eight_9 : decode cX6_eight 9 = .ok (.aload_n 0, 1) := dk_42 (dk_at dksX6_eight_0 9 rfl rfl)
theorem dX6_eight_10 : decode cX6_eight 10 = .ok (.lload_n 1, 1) := dk_31 (dk_at dksX6_eight_0 10 rfl rfl)
theorem dX6_eight_11 : decode cX6_eight 11 = .ok (.l2i, 1) := dk_136 (dk_at dksX6_eight_0 11 rfl rfl)
theorem dX6_eight_12 : decode cX6_eight 12 = .ok (.invokevirtual 17, 3) := dk_182 0 17 (dk_at dksX6_eight_0 12 rfl rfl)
theorem dX6_eight_15 : decode cX6_eight 15 = .ok (.return_, 1) := dk_177 (dk_at dksX6_eight_0 15 rfl rfl)
theorem q398 : (Jvm.Cond.initialized "WasteHouse$TicketChain$Writer") ∈ lw_all := lw_g (lw_at lw_m1 6 rfl) rfl
theorem q580 : (Jvm.Cond.instantiable "WasteHouse$TicketChain$Writer" (2 : Nat)) ∈ lw_all := lw_g (lw_at lw_m1 188 rfl) rfl
theorem q582 : (Jvm.Cond.instanceMethod ({ cls := "WasteHouse$TicketChain$Writer", name := "<init>", desc := "()V" } : Jvm.MethodName)) ∈ lw_all := lw_g (lw_at lw_m1 190 rfl) rfl
theorem q583 : (Jvm.Cond.code ({ cls := "WasteHouse$TicketChain$Writer", name := "<init>", desc := "()V" } : Jvm.MethodName) prog_53_method_1_code (1 : Nat) (Option.none : Option Jvm.ClassFile.FieldType)) ∈ lw_all := lw_g (lw_at lw_m1 191 rfl) rfl
theorem q584 : (Jvm.Cond.methodLink "WasteHouse$TicketChain$Writer" (1 : Nat) ({ cls := "java/lang/Object", name := "<init>", desc := "()V" } : Jvm.MethodName)) ∈ lw_all := lw_g (lw_at lw_m1 192 rfl) rfl
theorem q585 : (Jvm.Cond.fieldLink "WasteHouse$TicketChain$Writer" (7 : Nat) "WasteHouse$TicketChain$Writer" "row" "[B") ∈ lw_all := lw_g (lw_at lw_m1 193 rfl) rfl
theorem q586 : (Jvm.Cond.fieldLink "WasteHouse$TicketChain$Writer" (13 : Nat) "WasteHouse$TicketChain$Writer" "at" "I") ∈ lw_all := lw_g (lw_at lw_m1 194 rfl) rfl
theorem q587 : (Jvm.Cond.lays "WasteHouse$TicketChain$Writer" "WasteHouse$TicketChain$Writer" "row" "[B") ∈ lw_all := lw_g (lw_at lw_m1 195 rfl) rfl
theorem q588 : (Jvm.Cond.soleField "WasteHouse$TicketChain$Writer" "row") ∈ lw_all := lw_g (lw_at lw_m1 196 rfl) rfl
theorem q589 : (Jvm.Cond.lays "WasteHouse$TicketChain$Writer" "WasteHouse$TicketChain$Writer" "at" "I") ∈ lw_all := lw_g (lw_at lw_m1 197 rfl) rfl
theorem q590 : (Jvm.Cond.soleField "WasteHouse$TicketChain$Writer" "at") ∈ lw_all := lw_g (lw_at lw_m1 198 rfl) rfl
theorem q591 : (Jvm.Cond.superclass "WasteHouse$TicketChain$Writer" "java/lang/Object") ∈ lw_all := lw_g (lw_at lw_m1 199 rfl) rfl
theorem q2022 : (Jvm.Cond.selects "WasteHouse$TicketChain$Writer" ({ cls := "java/lang/Object", name := "getClass", desc := "()Ljava/lang/Class;" } : Jvm.MethodName) ({ cls := "java/lang/Object", name := "getClass", desc := "()Ljava/lang/Class;" } : Jvm.MethodName)) ∈ lw_all := lw_g (lw_at lw_m7 190 rfl) rfl
theorem q3132 : (Jvm.Cond.selects "WasteHouse$TicketChain$Writer" ({ cls := "java/lang/Object", name := "equals", desc := "(Ljava/lang/Object;)Z" } : Jvm.MethodName) ({ cls := "java/lang/Object", name := "equals", desc := "(Ljava/lang/Object;)Z" } : Jvm.MethodName)) ∈ lw_all := lw_g (lw_at lw_m12 100 rfl) rfl
theorem q3650 : (Jvm.Cond.selects "WasteHouse$TicketChain$Writer" ({ cls := "java/lang/Object", name := "hashCode", desc := "()I" } : Jvm.MethodName) ({ cls := "java/lang/Object", name := "hashCode", desc := "()I" } : Jvm.MethodName)) ∈ lw_all := lw_g (lw_at lw_m14 138 rfl) rfl
theorem q5160 : (Jvm.Cond.instanceMethod ({ cls := "WasteHouse$TicketChain$Writer", name := "begin", desc := "([BII)V" } : Jvm.MethodName)) ∈ lw_all := lw_g (lw_at lw_m20 208 rfl) rfl
theorem q5161 : (Jvm.Cond.selects "WasteHouse$TicketChain$Writer" ({ cls := "WasteHouse$TicketChain$Writer", name := "begin", desc := "([BII)V" } : Jvm.MethodName) ({ cls := "WasteHouse$TicketChain$Writer", name := "begin", desc := "([BII)V" } : Jvm.MethodName)) ∈ lw_all := lw_g (lw_at lw_m20 209 rfl) rfl
theorem q5162 : (Jvm.Cond.code ({ cls := "WasteHouse$TicketChain$Writer", name := "begin", desc := "([BII)V" } : Jvm.MethodName) prog_53_method_2_code (4 : Nat) (Option.none : Option Jvm.ClassFile.FieldType)) ∈ lw_all := lw_g (lw_at lw_m20 210 rfl) rfl
theorem q5163 : (Jvm.Cond.methodLink "WasteHouse$TicketChain$Writer" (17 : Nat) ({ cls := "WasteHouse$TicketChain$Writer", name := "four", desc := "(I)V" } : Jvm.MethodName)) ∈ lw_all := lw_g (lw_at lw_m20 211 rfl) rfl
theorem q5164 : (Jvm.Cond.instanceMethod ({ cls := "WasteHouse$TicketChain$Writer", name := "four", desc := "(I)V" } : Jvm.MethodName)) ∈ lw_all := lw_g (lw_at lw_m20 212 rfl) rfl
theorem q5165 : (Jvm.Cond.selects "WasteHouse$TicketChain$Writer" ({ cls := "WasteHouse$TicketChain$Writer", name := "four", desc := "(I)V" } : Jvm.MethodName) ({ cls := "WasteHouse$TicketChain$Writer", name := "four", desc := "(I)V" } : Jvm.MethodName)) ∈ lw_all := lw_g (lw_at lw_m20 213 rfl) rfl
theorem q5166 : (Jvm.Cond.code ({ cls := "WasteHouse$TicketChain$Writer", name := "four", desc := "(I)V" } : Jvm.MethodName) prog_53_method_3_code (3 : Nat) (Option.none : Option Jvm.ClassFile.FieldType)) ∈ lw_all := lw_g (lw_at lw_m20 214 rfl) rfl
theorem q5173 : (Jvm.Cond.instanceMethod ({ cls := "WasteHouse$TicketChain$Writer", name := "eight", desc := "(J)V" } : Jvm.MethodName)) ∈ lw_all := lw_g (lw_at lw_m20 221 rfl) rfl
theorem q5174 : (Jvm.Cond.selects "WasteHouse$TicketChain$Writer" ({ cls := "WasteHouse$TicketChain$Writer", name := "eight", desc := "(J)V" } : Jvm.MethodName) ({ cls := "WasteHouse$TicketChain$Writer", name := "eight", desc := "(J)V" } : Jvm.MethodName)) ∈ lw_all := lw_g (lw_at lw_m20 222 rfl) rfl
theorem q5175 : (Jvm.Cond.code ({ cls := "WasteHouse$TicketChain$Writer", name := "eight", desc := "(J)V" } : Jvm.MethodName) prog_53_method_4_code (3 : Nat) (Option.none : Option Jvm.ClassFile.FieldType)) ∈ lw_all := lw_g (lw_at lw_m20 223 rfl) rfl
theorem q9635 : (Jvm.Cond.castable "WasteHouse$TicketChain$Writer" "java/lang/Object") ∈ lw_tbl := lw_at lw_m39 123 rfl
theorem in_X6 : ∀ w ∈ wsX60, w ∈ lw_all := lw_in wsX60 [587, 589] (by decide +kernel) (by decide +kernel)
