/-! WasteHouse$Ledger -/
set_option maxRecDepth 100000
def RX38 : String := "WasteHouse$Ledger"
def TX38 : u_T := fun k => match k with
  | 0 => ("WasteHouse$Ledger", "balances", "[J", true)
  | 1 => ("WasteHouse$Ledger", "first", "Ljava/util/ArrayList;", true)
  | _ => ("WasteHouse$Ledger", "count", "I", false)
def tyX38 : Nat → FieldType := fun k => match k with
  | 0 => .array .long
  | 1 => .object "java/util/ArrayList"
  | _ => .int
abbrev wsX380 : List Cond := u_ws RX38 TX38 3
theorem nmX38 : ∀ a, a < 3 → ∀ b, b < 3 → a ≠ b → (TX38 a).2.1 ≠ (TX38 b).2.1 := by decide +kernel
theorem tyX38_ok : ∀ k, k < 3 → parseFieldDescriptor (TX38 k).2.2.1 = some (tyX38 k) := by decide +kernel
abbrev cX38_init : ByteArray := prog_25_method_1_code
def yX38_init : MethodName := ⟨RX38, "<init>", "()V"⟩
def dkwX38_init_0 : List UInt8 := [42, 183, 0, 1, 42, 16, 16, 188, 11, 181, 0, 7, 42, 187, 0, 13, 89, 183, 0, 15, 181, 0, 16, 177]
abbrev dktX38_init_0 : List UInt8 := dkwX38_init_0 ++ []
theorem dksX38_init_0 : cX38_init.data.toList.drop 0 = dktX38_init_0 := by decide +kernel
theorem dX38_init_0 : decode cX38_init 0 = .ok (.aload_n 0, 1) := dk_42 (dk_at dksX38_init_0 0 rfl rfl)
theorem dX38_init_1 : decode cX38_init 1 = .ok (.invokespecial 1, 3) := dk_183 0 1 (dk_at dksX38_init_0 1 rfl rfl)
theorem dX38_init_4 : decode cX38_init 4 = .ok (.aload_n 0, 1) := dk_42 (dk_at dksX38_init_0 4 rfl rfl)
theorem dX38_init_5 : decode cX38_init 5 = .ok (.bipush 16, 2) := dk_16 16 (dk_at dksX38_init_0 5 rfl rfl)
theorem dX38_init_7 : decode cX38_init 7 = .ok (.newarray .long, 2) := dk_188_11 (dk_at dksX38_init_0 7 rfl rfl)
theorem dX38_init_9 : decode cX38_init 9 = .ok (.putfield 7, 3) := dk_181 0 7 (dk_at dksX38_init_0 9 rfl rfl)
theorem dX38_init_12 : decode cX38_init 12 = .ok (.aload_n 0, 1) := dk_42 (dk_at dksX38_init_0 12 rfl rfl)
theorem dX38_init_13 : decode cX38_init 13 = .ok (.new 13, 3) := dk_187 0 13 (dk_at dksX38_init_0 13 rfl rfl)
theorem dX38_init_16 : decode cX38_init 16 = .ok (.dup, 1) := dk_89 (dk_at dksX38_init_0 16 rfl rfl)
theorem dX38_init_17 : decode cX38_init 17 = .ok (.invokespecial 15, 3) := dk_183 0 15 (dk_at dksX38_init_0 17 rfl rfl)
theorem dX38_init_20 : decode cX38_init 20 = .ok (.putfield 16, 3) := dk_181 0 16 (dk_at dksX38_init_0 20 rfl rfl)
theorem dX38_init_23 : decode cX38_init 23 = .ok (.return_, 1) := dk_177 (dk_at dksX38_init_0 23 rfl rfl)
abbrev cX38_book : ByteArray := prog_25_method_2_code
def yX38_book : MethodName := ⟨RX38, "book", "(IIJ)V"⟩
def dkwX38_book_2 : List UInt8 := [42, 89, 180, 0, 20, 4, 96, 181, 0, 20, 177]
abbrev dktX38_book_2 : List UInt8 := dkwX38_book_2 ++ []
def dkwX38_book_1 : List UInt8 := [17, 1, 244, 162, 0, 21, 42, 180, 0, 16, 187, 0, 24, 89, 27, 28, 33, 183, 0, 26, 182, 0, 29, 87]
abbrev dktX38_book_1 : List UInt8 := dkwX38_book_1 ++ dktX38_book_2
def dkwX38_book_0 : List UInt8 := [42, 180, 0, 7, 27, 92, 47, 33, 97, 80, 42, 180, 0, 7, 28, 92, 47, 33, 101, 80, 42, 180, 0, 20]
abbrev dktX38_book_0 : List UInt8 := dkwX38_book_0 ++ dktX38_book_1
theorem dksX38_book_0 : cX38_book.data.toList.drop 0 = dktX38_book_0 := by decide +kernel
theorem dksX38_book_1 : cX38_book.data.toList.drop 24 = dktX38_book_1 := dk_seg dksX38_book_0 24 rfl rfl
theorem dksX38_book_2 : cX38_book.data.toList.drop 48 = dktX38_book_2 := dk_seg dksX38_book_1 24 rfl rfl
theorem dX38_book_0 : decode cX38_book 0 = .ok (.aload_n 0, 1) := dk_42 (dk_at dksX38_book_0 0 rfl rfl)
theorem dX38_book_1 : decode cX38_book 1 = .ok (.getfield 7, 3) := dk_180 0 7 (dk_at dksX38_book_0 1 rfl rfl)
theorem dX38_book_4 : decode cX38_book 4 = .ok (.iload_n 1, 1) := dk_27 (dk_at dksX38_book_0 4 rfl rfl)
theorem dX38_book_5 : decode cX38_book 5 = .ok (.dup2, 1) := dk_92 (dk_at dksX38_book_0 5 rfl rfl)
theorem dX38_book_6 : decode cX38_book 6 = .ok (.laload, 1) := dk_47 (dk_at dksX38_book_0 6 rfl rfl)
theorem dX38_book_7 : decode cX38_book 7 = .ok (.lload_n 3, 1) := dk_33 (dk_at dksX38_book_0 7 rfl rfl)
theorem dX38_book_8 : decode cX38_book 8 = .ok (.ladd, 1) := dk_97 (dk_at dksX38_book_0 8 rfl rfl)
theorem dX38_book_9 : decode cX38_book 9 = .ok (.lastore, 1) := dk_80 (dk_at dksX38_book_0 9 rfl rfl)
theorem dX38_book_10 : decode cX38_book 10 = .ok (.aload_n 0, 1) := dk_42 (dk_at dksX38_book_0 10 rfl rfl)
theorem dX38_book_11 : decode cX38_book 11 = .ok (.getfield 7, 3) := dk_180 0 7 (dk_at dksX38_book_0 11 rfl rfl)
theorem dX38_book_14 : decode cX38_book 14 = .ok (.iload_n 2, 1) := dk_28 (dk_at dksX38_book_0 14 rfl rfl)
theorem dX38_book_15 : decode cX38_book 15 = .ok (.dup2, 1) := dk_92 (dk_at dksX38_book_0 15 rfl rfl)
theorem dX38_book_16 : decode cX38_book 16 = .ok (.laload, 1) := dk_47 (dk_at dksX38_book_0 16 rfl rfl)
theorem dX38_book_17 : decode cX38_book 17 = .ok (.lload_n 3, 1) := dk_33 (dk_at dksX38_book_0 17 rfl rfl)
theorem dX38_book_18 : decode cX38_book 18 = .ok (.lsub, 1) := dk_101 (dk_at dksX38_book_0 18 rfl rfl)
theorem dX38_book_19 : decode cX38_book 19 = .ok (.lastore, 1) := dk_80 (dk_at dksX38_book_0 19 rfl rfl)
theorem dX38_book_20 : decode cX38_book 20 = .ok (.aload_n 0, 1) := dk_42 (dk_at dksX38_book_0 20 rfl rfl)
theorem dX38_book_21 : decode cX38_book 21 = .ok (.getfield 20, 3) := dk_180 0 20 (dk_at dksX38_book_0 21 rfl rfl)
theorem dX38_book_24 : decode cX38_book 24 = .ok (.sipush 500, 3) := dk_17 1 244 (dk_at dksX38_book_1 0 rfl rfl)
theorem dX38_book_27 : decode cX38_book 27 = .ok (.if_icmp .ge 21, 3) := dk_162 0 21 (dk_at dksX38_book_1 3 rfl rfl)
theorem dX38_book_30 : decode cX38_book 30 = .ok (.aload_n 0, 1) := dk_42 (dk_at dksX38_book_1 6 rfl rfl)
theorem dX38_book_31 : decode cX38_book 31 = .ok (.getfield 16, 3) := dk_180 0 16 (dk_at dksX38_book_1 7 rfl rfl)
theorem dX38_book_34 : decode cX38_book 34 = .ok (.new 24, 3) := dk_187 0 24 (dk_at dksX38_book_1 10 rfl rfl)
theorem dX38_book_37 : decode cX38_book 37 = .ok (.dup, 1) := dk_89 (dk_at dksX38_book_1 13 rfl rfl)
theorem dX38_book_38 : decode cX38_book 38 = .ok (.iload_n 1, 1) := dk_27 (dk_at dksX38_book_1 14 rfl rfl)
theorem dX38_book_39 : decode cX38_book 39 = .ok (.iload_n 2, 1) := dk_28 (dk_at dksX38_book_1 15 rfl rfl)
theorem dX38_book_40 : decode cX38_book 40 = .ok (.lload_n 3, 1) := dk_33 (dk_at dksX38_book_1 16 rfl rfl)
theorem dX38_book_41 : decode cX38_book 41 = .ok (.invokespecial 26, 3) := dk_183 0 26 (dk_at dksX38_book_1 17 rfl rfl)
theorem dX38_book_44 : decode cX38_book 44 = .ok (.invokevirtual 29, 3) := dk_182 0 29 (dk_at dksX38_book_1 20 rfl rfl)
theorem dX38_book_47 : decode cX38_book 47 = .ok (.pop, 1) := dk_87 (dk_at dksX38_book_1 23 rfl rfl)
theorem dX38_book_48 : decode cX38_book 48 = .ok (.aload_n 0, 1) := dk_42 (dk_at dksX38_book_2 0 rfl rfl)
theorem dX38_book_49 : decode cX38_book 49 = .ok (.dup, 1) := dk_89 (dk_at dksX38_book_2 1 rfl rfl)
theorem dX38_book_50 : decode cX38_book 50 = .ok (.getfield 20, 3) := dk_180 0 20 (dk_at dksX38_book_2 2 rfl rfl)
theorem dX38_book_53 : decode cX38_book 53 = .ok (.iconst 1, 1) := dk_4 (dk_at dksX38_book_2 5 rfl rfl)
theorem dX38_book_54 : decode cX38_book 54 = .ok (.iadd, 1) := dk_96 (dk_at dksX38_book_2 6 rfl rfl)
theorem dX38_book_55 : decode cX38_book 55 = .ok (.putfield 20, 3) := dk_181 0 20 (dk_at dksX38_book_2 7 rfl rfl)
theorem dX38_book_58 : decode cX38_book 58 = .ok (.return_, 1) := dk_177 (dk_at dksX38_book_2 10 rfl rfl)
abbrev cX38_isEven : ByteArray := prog_25_method_3_code
def yX38_isEven : MethodName := ⟨RX38, "isEven", "()Z"⟩
def dkwX38_isEven_2 : List UInt8 := [3, 172]
abbrev dktX38_isEven_2 : List UInt8 := dkwX38_isEven_2 ++ []
def dkwX38_isEven_1 : List UInt8 := [47, 55, 6, 31, 22, 6, 97, 64, 132, 5, 1, 167, 255, 235, 31, 9, 148, 154, 0, 7, 4, 167, 0, 4]
abbrev dktX38_isEven_1 : List UInt8 := dkwX38_isEven_1 ++ dktX38_isEven_2
def dkwX38_isEven_0 : List UInt8 := [9, 64, 42, 180, 0, 7, 78, 45, 190, 54, 4, 3, 54, 5, 21, 5, 21, 4, 162, 0, 20, 45, 21, 5]
abbrev dktX38_isEven_0 : List UInt8 := dkwX38_isEven_0 ++ dktX38_isEven_1
theorem dksX38_isEven_0 : cX38_isEven.data.toList.drop 0 = dktX38_isEven_0 := by decide +kernel
theorem dksX38_isEven_1 : cX38_isEven.data.toList.drop 24 = dktX38_isEven_1 := dk_seg dksX38_isEven_0 24 rfl rfl
theorem dksX38_isEven_2 : cX38_isEven.data.toList.drop 48 = dktX38_isEven_2 := dk_seg dksX38_isEven_1 24 rfl rfl
theorem dX38_isEven_0 : decode cX38_isEven 0 = .ok (.lconst 0, 1) := dk_9 (dk_at dksX38_isEven_0 0 rfl rfl)
theorem dX38_isEven_1 : decode cX38_isEven 1 = .ok (.lstore_n 1, 1) := dk_64 (dk_at dksX38_isEven_0 1 rfl rfl)
theorem dX38_isEven_2 : decode cX38_isEven 2 = .ok (.aload_n 0, 1) := dk_42 (dk_at dksX38_isEven_0 2 rfl rfl)
theorem dX38_isEven_3 : decode cX38_isEven 3 = .ok (.getfield 7, 3) := dk_180 0 7 (dk_at dksX38_isEven_0 3 rfl rfl)
theorem dX38_isEven_6 : decode cX38_isEven 6 = .ok (.astore_n 3, 1) := dk_78 (dk_at dksX38_isEven_0 6 rfl rfl)
theorem dX38_isEven_7 : decode cX38_isEven 7 = .ok (.aload_n 3, 1) := dk_45 (dk_at dksX38_isEven_0 7 rfl rfl)
theorem dX38_isEven_8 : decode cX38_isEven 8 = .ok (.arraylength, 1) := dk_190 (dk_at dksX38_isEven_0 8 rfl rfl)
theorem dX38_isEven_9 : decode cX38_isEven 9 = .ok (.istore 4, 2) := dk_54 4 (dk_at dksX38_isEven_0 9 rfl rfl)
theorem dX38_isEven_11 : decode cX38_isEven 11 = .ok (.iconst 0, 1) := dk_3 (dk_at dksX38_isEven_0 11 rfl rfl)
theorem dX38_isEven_12 : decode cX38_isEven 12 = .ok (.istore 5, 2) := dk_54 5 (dk_at dksX38_isEven_0 12 rfl rfl)
theorem dX38_isEven_14 : decode cX38_isEven 14 = .ok (.iload 5, 2) := dk_21 5 (dk_at dksX38_isEven_0 14 rfl rfl)
theorem dX38_isEven_16 : decode cX38_isEven 16 = .ok (.iload 4, 2) := dk_21 4 (dk_at dksX38_isEven_0 16 rfl rfl)
theorem dX38_isEven_18 : decode cX38_isEven 18 = .ok (.if_icmp .ge 20, 3) := dk_162 0 20 (dk_at dksX38_isEven_0 18 rfl rfl)
theorem dX38_isEven_21 : decode cX38_isEven 21 = .ok (.aload_n 3, 1) := dk_45 (dk_at dksX38_isEven_0 21 rfl rfl)
theorem dX38_isEven_22 : decode cX38_isEven 22 = .ok (.iload 5, 2) := dk_21 5 (dk_at dksX38_isEven_0 22 rfl rfl)
theorem dX38_isEven_24 : decode cX38_isEven 24 = .ok (.laload, 1) := dk_47 (dk_at dksX38_isEven_1 0 rfl rfl)
theorem dX38_isEven_25 : decode cX38_isEven 25 = .ok (.lstore 6, 2) := dk_55 6 (dk_at dksX38_isEven_1 1 rfl rfl)
theorem dX38_isEven_27 : decode cX38_isEven 27 = .ok (.lload_n 1, 1) := dk_31 (dk_at dksX38_isEven_1 3 rfl rfl)
theorem dX38_isEven_28 : decode cX38_isEven 28 = .ok (.lload 6, 2) := dk_22 6 (dk_at dksX38_isEven_1 4 rfl rfl)
theorem dX38_isEven_30 : decode cX38_isEven 30 = .ok (.ladd, 1) := dk_97 (dk_at dksX38_isEven_1 6 rfl rfl)
theorem dX38_isEven_31 : decode cX38_isEven 31 = .ok (.lstore_n 1, 1) := dk_64 (dk_at dksX38_isEven_1 7 rfl rfl)
theorem dX38_isEven_32 : decode cX38_isEven 32 = .ok (.iinc 5 1, 3) := dk_132 5 1 (dk_at dksX38_isEven_1 8 rfl rfl)
theorem dX38_isEven_35 : decode cX38_isEven 35 = .ok (.goto (-21), 3) := dk_167 255 235 (dk_at dksX38_isEven_1 11 rfl rfl)
theorem dX38_isEven_38 : decode cX38_isEven 38 = .ok (.lload_n 1, 1) := dk_31 (dk_at dksX38_isEven_1 14 rfl rfl)
theorem dX38_isEven_39 : decode cX38_isEven 39 = .ok (.lconst 0, 1) := dk_9 (dk_at dksX38_isEven_1 15 rfl rfl)
theorem dX38_isEven_40 : decode cX38_isEven 40 = .ok (.lcmp, 1) := dk_148 (dk_at dksX38_isEven_1 16 rfl rfl)
theorem dX38_isEven_41 : decode cX38_isEven 41 = .ok (.ifCond .ne 7, 3) := dk_154 0 7 (dk_at dksX38_isEven_1 17 rfl rfl)
theorem dX38_isEven_44 : decode cX38_isEven 44 = .ok (.iconst 1, 1) := dk_4 (dk_at dksX38_isEven_1 20 rfl rfl)
theorem dX38_isEven_45 : decode cX38_isEven 45 = .ok (.goto 4, 3) := dk_167 0 4 (dk_at dksX38_isEven_1 21 rfl rfl)
theorem dX38_isEven_48 : decode cX38_isEven 48 = .ok (.iconst 0, 1) := dk_3 (dk_at dksX38_isEven_2 0 rfl rfl)
theorem dX38_isEven_49 : decode cX38_isEven 49 = .ok (.ireturn, 1) := dk_172 (dk_at dksX38_isEven_2 1 rfl rfl)
theorem q441 : (Jvm.Cond.initialized "WasteHouse$Ledger") ∈ lw_all := lw_g (lw_at lw_m1 49 rfl) rfl
theorem q1911 : (Jvm.Cond.instantiable "WasteHouse$Ledger" (3 : Nat)) ∈ lw_all := lw_g (lw_at lw_m7 79 rfl) rfl
theorem q1913 : (Jvm.Cond.instanceMethod ({ cls := "WasteHouse$Ledger", name := "<init>", desc := "()V" } : Jvm.MethodName)) ∈ lw_all := lw_g (lw_at lw_m7 81 rfl) rfl
theorem q1914 : (Jvm.Cond.code ({ cls := "WasteHouse$Ledger", name := "<init>", desc := "()V" } : Jvm.MethodName) prog_25_method_1_code (1 : Nat) (Option.none : Option Jvm.ClassFile.FieldType)) ∈ lw_all := lw_g (lw_at lw_m7 82 rfl) rfl
theorem q1915 : (Jvm.Cond.methodLink "WasteHouse$Ledger" (1 : Nat) ({ cls := "java/lang/Object", name := "<init>", desc := "()V" } : Jvm.MethodName)) ∈ lw_all := lw_g (lw_at lw_m7 83 rfl) rfl
theorem q1916 : (Jvm.Cond.classLink "WasteHouse$Ledger" (13 : Nat) "java/util/ArrayList") ∈ lw_all := lw_g (lw_at lw_m7 84 rfl) rfl
theorem q1917 : (Jvm.Cond.methodLink "WasteHouse$Ledger" (15 : Nat) ({ cls := "java/util/ArrayList", name := "<init>", desc := "()V" } : Jvm.MethodName)) ∈ lw_all := lw_g (lw_at lw_m7 85 rfl) rfl
theorem q1918 : (Jvm.Cond.fieldLink "WasteHouse$Ledger" (7 : Nat) "WasteHouse$Ledger" "balances" "[J") ∈ lw_all := lw_g (lw_at lw_m7 86 rfl) rfl
theorem q1921 : (Jvm.Cond.fieldLink "WasteHouse$Ledger" (16 : Nat) "WasteHouse$Ledger" "first" "Ljava/util/ArrayList;") ∈ lw_all := lw_g (lw_at lw_m7 89 rfl) rfl
theorem q1923 : (Jvm.Cond.fieldLink "WasteHouse$Ledger" (20 : Nat) "WasteHouse$Ledger" "count" "I") ∈ lw_all := lw_g (lw_at lw_m7 91 rfl) rfl
theorem q1925 : (Jvm.Cond.laysFinal "WasteHouse$Ledger" "WasteHouse$Ledger" "balances" "[J") ∈ lw_all := lw_g (lw_at lw_m7 93 rfl) rfl
theorem q1926 : (Jvm.Cond.soleField "WasteHouse$Ledger" "balances") ∈ lw_all := lw_g (lw_at lw_m7 94 rfl) rfl
theorem q1927 : (Jvm.Cond.laysFinal "WasteHouse$Ledger" "WasteHouse$Ledger" "first" "Ljava/util/ArrayList;") ∈ lw_all := lw_g (lw_at lw_m7 95 rfl) rfl
theorem q1928 : (Jvm.Cond.soleField "WasteHouse$Ledger" "first") ∈ lw_all := lw_g (lw_at lw_m7 96 rfl) rfl
theorem q1929 : (Jvm.Cond.lays "WasteHouse$Ledger" "WasteHouse$Ledger" "count" "I") ∈ lw_all := lw_g (lw_at lw_m7 97 rfl) rfl
theorem q1930 : (Jvm.Cond.soleField "WasteHouse$Ledger" "count") ∈ lw_all := lw_g (lw_at lw_m7 98 rfl) rfl
theorem q1931 : (Jvm.Cond.superclass "WasteHouse$Ledger" "java/lang/Object") ∈ lw_all := lw_g (lw_at lw_m7 99 rfl) rfl
theorem q1995 : (Jvm.Cond.selects "WasteHouse$Ledger" ({ cls := "java/lang/Object", name := "getClass", desc := "()Ljava/lang/Class;" } : Jvm.MethodName) ({ cls := "java/lang/Object", name := "getClass", desc := "()Ljava/lang/Class;" } : Jvm.MethodName)) ∈ lw_all := lw_g (lw_at lw_m7 163 rfl) rfl
theorem q3105 : (Jvm.Cond.selects "WasteHouse$Ledger" ({ cls := "java/lang/Object", name := "equals", desc := "(Ljava/lang/Object;)Z" } : Jvm.MethodName) ({ cls := "java/lang/Object", name := "equals", desc := "(Ljava/lang/Object;)Z" } : Jvm.MethodName)) ∈ lw_all := lw_g (lw_at lw_m12 73 rfl) rfl
theorem q3623 : (Jvm.Cond.selects "WasteHouse$Ledger" ({ cls := "java/lang/Object", name := "hashCode", desc := "()I" } : Jvm.MethodName) ({ cls := "java/lang/Object", name := "hashCode", desc := "()I" } : Jvm.MethodName)) ∈ lw_all := lw_g (lw_at lw_m14 111 rfl) rfl
theorem q5457 : (Jvm.Cond.instanceMethod ({ cls := "WasteHouse$Ledger", name := "book", desc := "(IIJ)V" } : Jvm.MethodName)) ∈ lw_all := lw_g (lw_at lw_m22 25 rfl) rfl
theorem q5458 : (Jvm.Cond.selects "WasteHouse$Ledger" ({ cls := "WasteHouse$Ledger", name := "book", desc := "(IIJ)V" } : Jvm.MethodName) ({ cls := "WasteHouse$Ledger", name := "book", desc := "(IIJ)V" } : Jvm.MethodName)) ∈ lw_all := lw_g (lw_at lw_m22 26 rfl) rfl
theorem q5459 : (Jvm.Cond.code ({ cls := "WasteHouse$Ledger", name := "book", desc := "(IIJ)V" } : Jvm.MethodName) prog_25_method_2_code (5 : Nat) (Option.none : Option Jvm.ClassFile.FieldType)) ∈ lw_all := lw_g (lw_at lw_m22 27 rfl) rfl
theorem q5460 : (Jvm.Cond.classLink "WasteHouse$Ledger" (24 : Nat) "WasteHouse$Entry") ∈ lw_all := lw_g (lw_at lw_m22 28 rfl) rfl
theorem q5462 : (Jvm.Cond.methodLink "WasteHouse$Ledger" (26 : Nat) ({ cls := "WasteHouse$Entry", name := "<init>", desc := "(IIJ)V" } : Jvm.MethodName)) ∈ lw_all := lw_g (lw_at lw_m22 30 rfl) rfl
theorem q5476 : (Jvm.Cond.methodLink "WasteHouse$Ledger" (29 : Nat) ({ cls := "java/util/ArrayList", name := "add", desc := "(Ljava/lang/Object;)Z" } : Jvm.MethodName)) ∈ lw_all := lw_g (lw_at lw_m22 44 rfl) rfl
theorem q5669 : (Jvm.Cond.instanceMethod ({ cls := "WasteHouse$Ledger", name := "isEven", desc := "()Z" } : Jvm.MethodName)) ∈ lw_all := lw_g (lw_at lw_m22 237 rfl) rfl
theorem q5670 : (Jvm.Cond.selects "WasteHouse$Ledger" ({ cls := "WasteHouse$Ledger", name := "isEven", desc := "()Z" } : Jvm.MethodName) ({ cls := "WasteHouse$Ledger", name := "isEven", desc := "()Z" } : Jvm.MethodName)) ∈ lw_all := lw_g (lw_at lw_m22 238 rfl) rfl
theorem q5671 : (Jvm.Cond.code ({ cls := "WasteHouse$Ledger", name := "isEven", desc := "()Z" } : Jvm.MethodName) prog_25_method_3_code (8 : Nat) (Option.some Jvm.ClassFile.FieldType.boolean)) ∈ lw_all := lw_g (lw_at lw_m22 239 rfl) rfl
theorem q9661 : (Jvm.Cond.castable "WasteHouse$Ledger" "java/lang/Object") ∈ lw_tbl := lw_at lw_m39 149 rfl
theorem in_X38 : ∀ w ∈ wsX380, w ∈ lw_all := lw_in wsX380 [1925, 1927, 1929] (by decide +kernel) (by decide +kernel)
