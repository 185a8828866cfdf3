/-! java/util/TreeMap$PrivateEntryIterator -/
set_option maxRecDepth 100000
def RJ40 : String := "java/util/TreeMap$PrivateEntryIterator"
abbrev cJ40_hasNext : ByteArray := prog_133_method_2_code
def yJ40_hasNext : MethodName := ⟨RJ40, "hasNext", "()Z"⟩
def dkwJ40_hasNext_0 : List UInt8 := [42, 180, 0, 26, 198, 0, 7, 4, 167, 0, 4, 3, 172]
abbrev dktJ40_hasNext_0 : List UInt8 := dkwJ40_hasNext_0 ++ []
theorem dksJ40_hasNext_0 : cJ40_hasNext.data.toList.drop 0 = dktJ40_hasNext_0 := by decide +kernel
theorem dJ40_hasNext_0 : decode cJ40_hasNext 0 = .ok (.aload_n 0, 1) := dk_42 (dk_at dksJ40_hasNext_0 0 rfl rfl)
theorem dJ40_hasNext_1 : decode cJ40_hasNext 1 = .ok (.getfield 26, 3) := dk_180 0 26 (dk_at dksJ40_hasNext_0 1 rfl rfl)
theorem dJ40_hasNext_4 : decode cJ40_hasNext 4 = .ok (.ifnull 7, 3) := dk_198 0 7 (dk_at dksJ40_hasNext_0 4 rfl rfl)
theorem dJ40_hasNext_7 : decode cJ40_hasNext 7 = .ok (.iconst 1, 1) := dk_4 (dk_at dksJ40_hasNext_0 7 rfl rfl)
theorem dJ40_hasNext_8 : decode cJ40_hasNext 8 = .ok (.goto 4, 3) := dk_167 0 4 (dk_at dksJ40_hasNext_0 8 rfl rfl)
theorem dJ40_hasNext_11 : decode cJ40_hasNext 11 = .ok (.iconst 0, 1) := dk_3 (dk_at dksJ40_hasNext_0 11 rfl rfl)
theorem dJ40_hasNext_12 : decode cJ40_hasNext 12 = .ok (.ireturn, 1) := dk_172 (dk_at dksJ40_hasNext_0 12 rfl rfl)
abbrev cJ40_nextEntry : ByteArray := prog_133_method_3_code
def yJ40_nextEntry : MethodName := ⟨RJ40, "nextEntry", "()Ljava/util/TreeMap$Entry;"⟩
def dkwJ40_nextEntry_2 : List UInt8 := [43, 181, 0, 22, 43, 176]
abbrev dktJ40_nextEntry_2 : List UInt8 := dkwJ40_nextEntry_2 ++ []
def dkwJ40_nextEntry_1 : List UInt8 := [42, 180, 0, 19, 159, 0, 11, 187, 0, 32, 89, 183, 0, 34, 191, 42, 43, 184, 0, 35, 181, 0, 26, 42]
abbrev dktJ40_nextEntry_1 : List UInt8 := dkwJ40_nextEntry_1 ++ dktJ40_nextEntry_2
def dkwJ40_nextEntry_0 : List UInt8 := [42, 180, 0, 26, 76, 43, 199, 0, 11, 187, 0, 29, 89, 183, 0, 31, 191, 42, 180, 0, 1, 180, 0, 13]
abbrev dktJ40_nextEntry_0 : List UInt8 := dkwJ40_nextEntry_0 ++ dktJ40_nextEntry_1
theorem dksJ40_nextEntry_0 : cJ40_nextEntry.data.toList.drop 0 = dktJ40_nextEntry_0 := by decide +kernel
theorem dksJ40_nextEntry_1 : cJ40_nextEntry.data.toList.drop 24 = dktJ40_nextEntry_1 := dk_seg dksJ40_nextEntry_0 24 rfl rfl
theorem dksJ40_nextEntry_2 : cJ40_nextEntry.data.toList.drop 48 = dktJ40_nextEntry_2 := dk_seg dksJ40_nextEntry_1 24 rfl rfl
theorem dJ40_nextEntry_0 : decode cJ40_nextEntry 0 = .ok (.aload_n 0, 1) := dk_42 (dk_at dksJ40_nextEntry_0 0 rfl rfl)
theorem dJ40_nextEntry_1 : decode cJ40_nextEntry 1 = .ok (.getfield 26, 3) := dk_180 0 26 (dk_at dksJ40_nextEntry_0 1 rfl rfl)
theorem dJ40_nextEntry_4 : decode cJ40_nextEntry 4 = .ok (.astore_n 1, 1) := dk_76 (dk_at dksJ40_nextEntry_0 4 rfl rfl)
theorem dJ40_nextEntry_5 : decode cJ40_nextEntry 5 = .ok (.aload_n 1, 1) := dk_43 (dk_at dksJ40_nextEntry_0 5 rfl rfl)
theorem dJ40_nextEntry_6 : decode cJ40_nextEntry 6 = .ok (.ifnonnull 11, 3) := dk_199 0 11 (dk_at dksJ40_nextEntry_0 6 rfl rfl)
theorem dJ40_nextEntry_9 : decode cJ40_nextEntry 9 = .ok (.new 29, 3) := dk_187 0 29 (dk_at dksJ40_nextEntry_0 9 rfl rfl)
theorem dJ40_nextEntry_12 : decode cJ40_nextEntry 12 = .ok (.dup, 1) := dk_89 (dk_at dksJ40_nextEntry_0 12 rfl rfl)
theorem dJ40_nextEntry_13 : decode cJ40_nextEntry 13 = .ok (.invokespecial 31, 3) := dk_183 0 31 (dk_at dksJ40_nextEntry_0 13 rfl rfl)
theorem dJ40_nextEntry_16 : decode cJ40_nextEntry 16 = .ok (.athrow, 1) := dk_191 (dk_at dksJ40_nextEntry_0 16 rfl rfl)
theorem dJ40_nextEntry_17 : decode cJ40_nextEntry 17 = .ok (.aload_n 0, 1) := dk_42 (dk_at dksJ40_nextEntry_0 17 rfl rfl)
theorem dJ40_nextEntry_18 : decode cJ40_nextEntry 18 = .ok (.getfield 1, 3) := dk_180 0 1 (dk_at dksJ40_nextEntry_0 18 rfl rfl)
theorem dJ40_nextEntry_21 : decode cJ40_nextEntry 21 = .ok (.getfield 13, 3) := dk_180 0 13 (dk_at dksJ40_nextEntry_0 21 rfl rfl)
theorem dJ40_nextEntry_24 : decode cJ40_nextEntry 24 = .ok (.aload_n 0, 1) := dk_42 (dk_at dksJ40_nextEntry_1 0 rfl rfl)
theorem dJ40_nextEntry_25 : decode cJ40_nextEntry 25 = .ok (.getfield 19, 3) := dk_180 0 19 (dk_at dksJ40_nextEntry_1 1 rfl rfl)
theorem dJ40_nextEntry_28 : decode cJ40_nextEntry 28 = .ok (.if_icmp .eq 11, 3) := dk_159 0 11 (dk_at dksJ40_nextEntry_1 4 rfl rfl)
theorem dJ40_nextEntry_31 : decode cJ40_nextEntry 31 = .ok (.new 32, 3) := dk_187 0 32 (dk_at dksJ40_nextEntry_1 7 rfl rfl)
theorem dJ40_nextEntry_34 : decode cJ40_nextEntry 34 = .ok (.dup, 1) := dk_89 (dk_at dksJ40_nextEntry_1 10 rfl rfl)
theorem dJ40_nextEntry_35 : decode cJ40_nextEntry 35 = .ok (.invokespecial 34, 3) := dk_183 0 34 (dk_at dksJ40_nextEntry_1 11 rfl rfl)
theorem dJ40_nextEntry_38 : decode cJ40_nextEntry 38 = .ok (.athrow, 1) := dk_191 (dk_at dksJ40_nextEntry_1 14 rfl rfl)
theorem dJ40_nextEntry_39 : decode cJ40_nextEntry 39 = .ok (.aload_n 0, 1) := dk_42 (dk_at dksJ40_nextEntry_1 15 rfl rfl)
theorem dJ40_nextEntry_40 : decode cJ40_nextEntry 40 = .ok (.aload_n 1, 1) := dk_43 (dk_at dksJ40_nextEntry_1 16 rfl rfl)
theorem dJ40_nextEntry_41 : decode cJ40_nextEntry 41 = .ok (.invokestatic 35, 3) := dk_184 0 35 (dk_at dksJ40_nextEntry_1 17 rfl rfl)
theorem dJ40_nextEntry_44 : decode cJ40_nextEntry 44 = .ok (.putfield 26, 3) := dk_181 0 26 (dk_at dksJ40_nextEntry_1 20 rfl rfl)
theorem dJ40_nextEntry_47 : decode cJ40_nextEntry 47 = .ok (.aload_n 0, 1) := dk_42 (dk_at dksJ40_nextEntry_1 23 rfl rfl)
theorem dJ40_nextEntry_48 : decode cJ40_nextEntry 48 = .ok (.aload_n 1, 1) := dk_43 (dk_at dksJ40_nextEntry_2 0 rfl rfl)
theorem dJ40_nextEntry_49 : decode cJ40_nextEntry 49 = .ok (.putfield 22, 3) := dk_181 0 22 (dk_at dksJ40_nextEntry_2 1 rfl rfl)
theorem dJ40_nextEntry_52 : decode cJ40_nextEntry 52 = .ok (.aload_n 1, 1) := dk_43 (dk_at dksJ40_nextEntry_2 4 rfl rfl)
theorem dJ40_nextEntry_53 : decode cJ40_nextEntry 53 = .ok (.areturn, 1) := dk_176 (dk_at dksJ40_nextEntry_2 5 rfl rfl)
abbrev cJ40_init : ByteArray := prog_133_method_1_code
def yJ40_init : MethodName := ⟨RJ40, "<init>", "(Ljava/util/TreeMap;Ljava/util/TreeMap$Entry;)V"⟩
def dkwJ40_init_1 : List UInt8 := [181, 0, 26, 177]
abbrev dktJ40_init_1 : List UInt8 := dkwJ40_init_1 ++ []
def dkwJ40_init_0 : List UInt8 := [42, 43, 181, 0, 1, 42, 183, 0, 7, 42, 43, 180, 0, 13, 181, 0, 19, 42, 1, 181, 0, 22, 42, 44]
abbrev dktJ40_init_0 : List UInt8 := dkwJ40_init_0 ++ dktJ40_init_1
theorem dksJ40_init_0 : cJ40_init.data.toList.drop 0 = dktJ40_init_0 := by decide +kernel
theorem dksJ40_init_1 : cJ40_init.data.toList.drop 24 = dktJ40_init_1 := dk_seg dksJ40_init_0 24 rfl rfl
theorem dJ40_init_0 : decode cJ40_init 0 = .ok (.aload_n 0, 1) := dk_42 (dk_at dksJ40_init_0 0 rfl rfl)
theorem dJ40_init_1 : decode cJ40_init 1 = .ok (.aload_n 1, 1) := dk_43 (dk_at dksJ40_init_0 1 rfl rfl)
theorem dJ40_init_2 : decode cJ40_init 2 = .ok (.putfield 1, 3) := dk_181 0 1 (dk_at dksJ40_init_0 2 rfl rfl)
theorem dJ40_init_5 : decode cJ40_init 5 = .ok (.aload_n 0, 1) := dk_42 (dk_at dksJ40_init_0 5 rfl rfl)
theorem dJ40_init_6 : decode cJ40_init 6 = .ok (.invokespecial 7, 3) := dk_183 0 7 (dk_at dksJ40_init_0 6 rfl rfl)
theorem dJ40_init_9 : decode cJ40_init 9 = .ok (.aload_n 0, 1) := dk_42 (dk_at dksJ40_init_0 9 rfl rfl)
theorem dJ40_init_10 : decode cJ40_init 10 = .ok (.aload_n 1, 1) := dk_43 (dk_at dksJ40_init_0 10 rfl rfl)
theorem dJ40_init_11 : decode cJ40_init 11 = .ok (.getfield 13, 3) := dk_180 0 13 (dk_at dksJ40_init_0 11 rfl rfl)
theorem dJ40_init_14 : decode cJ40_init 14 = .ok (.putfield 19, 3) := dk_181 0 19 (dk_at dksJ40_init_0 14 rfl rfl)
theorem dJ40_init_17 : decode cJ40_init 17 = .ok (.aload_n 0, 1) := dk_42 (dk_at dksJ40_init_0 17 rfl rfl)
theorem dJ40_init_18 : decode cJ40_init 18 = .ok (.aconst_null, 1) := dk_1 (dk_at dksJ40_init_0 18 rfl rfl)
theorem dJ40_init_19 : decode cJ40_init 19 = .ok (.putfield 22, 3) := dk_181 0 22 (dk_at dksJ40_init_0 19 rfl rfl)
theorem dJ40_init_22 : decode cJ40_init 22 = .ok (.aload_n 0, 1) := dk_42 (dk_at dksJ40_init_0 22 rfl rfl)
theorem dJ40_init_23 : decode cJ40_init 23 = .ok (.aload_n 2, 1) := dk_44 (dk_at dksJ40_init_0 23 rfl rfl)
theorem dJ40_init_24 : decode cJ40_init 24 = .ok (.putfield 26, 3) := dk_181 0 26 (dk_at dksJ40_init_1 0 rfl rfl)
theorem dJ40_init_27 : decode cJ40_init 27 = .ok (.return_, 1) := dk_177 (dk_at dksJ40_init_1 3 rfl rfl)
abbrev cJ40_remove : ByteArray := prog_133_method_5_code
def yJ40_remove : MethodName := ⟨RJ40, "remove", "()V"⟩
def dkwJ40_remove_3 : List UInt8 := [180, 0, 22, 182, 0, 53, 42, 42, 180, 0, 1, 180, 0, 13, 181, 0, 19, 42, 1, 181, 0, 22, 177]
abbrev dktJ40_remove_3 : List UInt8 := dkwJ40_remove_3 ++ []
def dkwJ40_remove_2 : List UInt8 := [42, 180, 0, 22, 180, 0, 50, 198, 0, 11, 42, 42, 180, 0, 22, 181, 0, 26, 42, 180, 0, 1, 42]
abbrev dktJ40_remove_2 : List UInt8 := dkwJ40_remove_2 ++ dktJ40_remove_3
def dkwJ40_remove_1 : List UInt8 := [180, 0, 19, 159, 0, 11, 187, 0, 32, 89, 183, 0, 34, 191, 42, 180, 0, 22, 180, 0, 45, 198, 0, 21]
abbrev dktJ40_remove_1 : List UInt8 := dkwJ40_remove_1 ++ dktJ40_remove_2
def dkwJ40_remove_0 : List UInt8 := [42, 180, 0, 22, 199, 0, 11, 187, 0, 42, 89, 183, 0, 44, 191, 42, 180, 0, 1, 180, 0, 13, 42]
abbrev dktJ40_remove_0 : List UInt8 := dkwJ40_remove_0 ++ dktJ40_remove_1
theorem dksJ40_remove_0 : cJ40_remove.data.toList.drop 0 = dktJ40_remove_0 := by decide +kernel
theorem dksJ40_remove_1 : cJ40_remove.data.toList.drop 23 = dktJ40_remove_1 := dk_seg dksJ40_remove_0 23 rfl rfl
theorem dksJ40_remove_2 : cJ40_remove.data.toList.drop 47 = dktJ40_remove_2 := dk_seg dksJ40_remove_1 24 rfl rfl
theorem dksJ40_remove_3 : cJ40_remove.data.toList.drop 70 = dktJ40_remove_3 := dk_seg dksJ40_remove_2 23 rfl rfl
theorem dJ40_remove_0 : decode cJ40_remove 0 = .ok (.aload_n 0, 1) := dk_42 (dk_at dksJ40_remove_0 0 rfl rfl)
theorem dJ40_remove_1 : decode cJ40_remove 1 = .ok (.getfield 22, 3) := dk_180 0 22 (dk_at dksJ40_remove_0 1 rfl rfl)
theorem dJ40_remove_4 : decode cJ40_remove 4 = .ok (.ifnonnull 11, 3) := dk_199 0 11 (dk_at dksJ40_remove_0 4 rfl rfl)
theorem dJ40_remove_7 : decode cJ40_remove 7 = .ok (.new 42, 3) := dk_187 0 42 (dk_at dksJ40_remove_0 7 rfl rfl)
theorem dJ40_remove_10 : decode cJ40_remove 10 = .ok (.dup, 1) := dk_89 (dk_at dksJ40_remove_0 10 rfl rfl)
theorem dJ40_remove_11 : decode cJ40_remove 11 = .ok (.invokespecial 44, 3) := dk_183 0 44 (dk_at dksJ40_remove_0 11 rfl rfl)
theorem dJ40_remove_14 : decode cJ40_remove 14 = .ok (.athrow, 1) := dk_191 (dk_at dksJ40_remove_0 14 rfl rfl)
theorem dJ40_remove_15 : decode cJ40_remove 15 = .ok (.aload_n 0, 1) := dk_42 (dk_at dksJ40_remove_0 15 rfl rfl)
theorem dJ40_remove_16 : decode cJ40_remove 16 = .ok (.getfield 1, 3) := dk_180 0 1 (dk_at dksJ40_remove_0 16 rfl rfl)
theorem dJ40_remove_19 : decode cJ40_remove 19 = .ok (.getfield 13, 3) := dk_180 0 13 (dk_at dksJ40_remove_0 19 rfl rfl)
theorem dJ40_remove_22 : decode cJ40_remove 22 = .ok (.aload_n 0, 1) := dk_42 (dk_at dksJ40_remove_0 22 rfl rfl)
theorem dJ40_remove_23 : decode cJ40_remove 23 = .ok (.getfield 19, 3) := dk_180 0 19 (dk_at dksJ40_remove_1 0 rfl rfl)
theorem dJ40_remove_26 : decode cJ40_remove 26 = .ok (.if_icmp .eq 11, 3) := dk_159 0 11 (dk_at dksJ40_remove_1 3 rfl rfl)
theorem dJ40_remove_29 : decode cJ40_remove 29 = .ok (.new 32, 3) := dk_187 0 32 (dk_at dksJ40_remove_1 6 rfl rfl)
theorem dJ40_remove_32 : decode cJ40_remove 32 = .ok (.dup, 1) := dk_89 (dk_at dksJ40_remove_1 9 rfl rfl)
theorem dJ40_remove_33 : decode cJ40_remove 33 = .ok (.invokespecial 34, 3) := dk_183 0 34 (dk_at dksJ40_remove_1 10 rfl rfl)
theorem dJ40_remove_36 : decode cJ40_remove 36 = .ok (.athrow, 1) := dk_191 (dk_at dksJ40_remove_1 13 rfl rfl)
theorem dJ40_remove_37 : decode cJ40_remove 37 = .ok (.aload_n 0, 1) := dk_42 (dk_at dksJ40_remove_1 14 rfl rfl)
theorem dJ40_remove_38 : decode cJ40_remove 38 = .ok (.getfield 22, 3) := dk_180 0 22 (dk_at dksJ40_remove_1 15 rfl rfl)
theorem dJ40_remove_41 : decode cJ40_remove 41 = .ok (.getfield 45, 3) := dk_180 0 45 (dk_at dksJ40_remove_1 18 rfl rfl)
theorem dJ40_remove_44 : decode cJ40_remove 44 = .ok (.ifnull 21, 3) := dk_198 0 21 (dk_at dksJ40_remove_1 21 rfl rfl)
theorem dJ40_remove_47 : decode cJ40_remove 47 = .ok (.aload_n 0, 1) := dk_42 (dk_at dksJ40_remove_2 0 rfl rfl)
theorem dJ40_remove_48 : decode cJ40_remove 48 = .ok (.getfield 22, 3) := dk_180 0 22 (dk_at dksJ40_remove_2 1 rfl rfl)
theorem dJ40_remove_51 : decode cJ40_remove 51 = .ok (.getfield 50, 3) := dk_180 0 50 (dk_at dksJ40_remove_2 4 rfl rfl)
theorem dJ40_remove_54 : decode cJ40_remove 54 = .ok (.ifnull 11, 3) := dk_198 0 11 (dk_at dksJ40_remove_2 7 rfl rfl)
theorem dJ40_remove_57 : decode cJ40_remove 57 = .ok (.aload_n 0, 1) := dk_42 (dk_at dksJ40_remove_2 10 rfl rfl)
theorem dJ40_remove_58 : decode cJ40_remove 58 = .ok (.aload_n 0, 1) := dk_42 (dk_at dksJ40_remove_2 11 rfl rfl)
theorem dJ40_remove_59 : decode cJ40_remove 59 = .ok (.getfield 22, 3) := dk_180 0 22 (dk_at dksJ40_remove_2 12 rfl rfl)
theorem dJ40_remove_62 : decode cJ40_remove 62 = .ok (.putfield 26, 3) := dk_181 0 26 (dk_at dksJ40_remove_2 15 rfl rfl)
theorem dJ40_remove_65 : decode cJ40_remove 65 = .ok (.aload_n 0, 1) := dk_42 (dk_at dksJ40_remove_2 18 rfl rfl)
theorem dJ40_remove_66 : decode cJ40_remove 66 = .ok (.getfield 1, 3) := dk_180 0 1 (dk_at dksJ40_remove_2 19 rfl rfl)
theorem dJ40_remove_69 : decode cJ40_remove 69 = .ok (.aload_n 0, 1) := dk_42 (dk_at dksJ40_remove_2 22 rfl rfl)
theorem dJ40_remove_70 : decode cJ40_remove 70 = .ok (.getfield 22, 3) := dk_180 0 22 (dk_at dksJ40_remove_3 0 rfl rfl)
theorem dJ40_remove_73 : decode cJ40_remove 73 = .ok (.invokevirtual 53, 3) := dk_182 0 53 (dk_at dksJ40_remove_3 3 rfl rfl)
theorem dJ40_remove_76 : decode cJ40_remove 76 = .ok (.aload_n 0, 1) := dk_42 (dk_at dksJ40_remove_3 6 rfl rfl)
theorem dJ40_remove_77 : decode cJ40_remove 77 = .ok (.aload_n 0, 1) := dk_42 (dk_at dksJ40_remove_3 7 rfl rfl)
theorem dJ40_remove_78 : decode cJ40_remove 78 = .ok (.getfield 1, 3) := dk_180 0 1 (dk_at dksJ40_remove_3 8 rfl rfl)
theorem dJ40_remove_81 : decode cJ40_remove 81 = .ok (.getfield 13, 3) := dk_180 0 13 (dk_at dksJ40_remove_3 11 rfl rfl)
theorem dJ40_remove_84 : decode cJ40_remove 84 = .ok (.putfield 19, 3) := dk_181 0 19 (dk_at dksJ40_remove_3 14 rfl rfl)
theorem dJ40_remove_87 : decode cJ40_remove 87 = .ok (.aload_n 0, 1) := dk_42 (dk_at dksJ40_remove_3 17 rfl rfl)
theorem dJ40_remove_88 : decode cJ40_remove 88 = .ok (.aconst_null, 1) := dk_1 (dk_at dksJ40_remove_3 18 rfl rfl)
theorem dJ40_remove_89 : decode cJ40_remove 89 = .ok (.putfield 22, 3) := dk_181 0 22 (dk_at dksJ40_remove_3 19 rfl rfl)
theorem dJ40_remove_92 : decode cJ40_remove 92 = .ok (.return_, 1) := dk_177 (dk_at dksJ40_remove_3 22 rfl rfl)
theorem q498 : (Jvm.Cond.initialized "java/util/TreeMap$PrivateEntryIterator") ∈ lw_all := lw_g (lw_at lw_m1 106 rfl) rfl
theorem q634 : (Jvm.Cond.fieldLinkNest "java/util/TreeMap$PrivateEntryIterator" (13 : Nat) "java/util/TreeMap" "modCount" "I" "java/util/TreeMap") ∈ lw_tbl := lw_at lw_m2 2 rfl
theorem q2989 : (Jvm.Cond.instanceMethod ({ cls := "java/util/TreeMap$PrivateEntryIterator", name := "hasNext", desc := "()Z" } : Jvm.MethodName)) ∈ lw_all := lw_g (lw_at lw_m11 197 rfl) rfl
theorem q2990 : (Jvm.Cond.publicMethod ({ cls := "java/util/TreeMap$PrivateEntryIterator", name := "hasNext", desc := "()Z" } : Jvm.MethodName)) ∈ lw_tbl := lw_at lw_m11 198 rfl
theorem q2991 : (Jvm.Cond.code ({ cls := "java/util/TreeMap$PrivateEntryIterator", name := "hasNext", desc := "()Z" } : Jvm.MethodName) prog_133_method_2_code (1 : Nat) (Option.some Jvm.ClassFile.FieldType.boolean)) ∈ lw_all := lw_g (lw_at lw_m11 199 rfl) rfl
theorem q3038 : (Jvm.Cond.declares ({ cls := "java/util/TreeMap$PrivateEntryIterator", name := "nextEntry", desc := "()Ljava/util/TreeMap$Entry;" } : Jvm.MethodName)) ∈ lw_tbl := lw_at lw_m12 6 rfl
theorem q3040 : (Jvm.Cond.instanceMethod ({ cls := "java/util/TreeMap$PrivateEntryIterator", name := "nextEntry", desc := "()Ljava/util/TreeMap$Entry;" } : Jvm.MethodName)) ∈ lw_all := lw_g (lw_at lw_m12 8 rfl) rfl
theorem q3041 : (Jvm.Cond.code ({ cls := "java/util/TreeMap$PrivateEntryIterator", name := "nextEntry", desc := "()Ljava/util/TreeMap$Entry;" } : Jvm.MethodName) prog_133_method_3_code (2 : Nat) (Option.some (Jvm.ClassFile.FieldType.object "java/util/TreeMap$Entry"))) ∈ lw_all := lw_g (lw_at lw_m12 9 rfl) rfl
theorem q3042 : (Jvm.Cond.methodLink "java/util/TreeMap$PrivateEntryIterator" (35 : Nat) ({ cls := "java/util/TreeMap", name := "successor", desc := "(Ljava/util/TreeMap$Entry;)Ljava/util/TreeMap$Entry;" } : Jvm.MethodName)) ∈ lw_all := lw_g (lw_at lw_m12 10 rfl) rfl
theorem q4262 : (Jvm.Cond.fieldLink "java/util/TreeMap$PrivateEntryIterator" (45 : Nat) "java/util/TreeMap$Entry" "left" "Ljava/util/TreeMap$Entry;") ∈ lw_all := lw_g (lw_at lw_m17 30 rfl) rfl
theorem q4264 : (Jvm.Cond.fieldLink "java/util/TreeMap$PrivateEntryIterator" (50 : Nat) "java/util/TreeMap$Entry" "right" "Ljava/util/TreeMap$Entry;") ∈ lw_all := lw_g (lw_at lw_m17 32 rfl) rfl
theorem q4462 : (Jvm.Cond.instanceMethod ({ cls := "java/util/TreeMap$PrivateEntryIterator", name := "<init>", desc := "(Ljava/util/TreeMap;Ljava/util/TreeMap$Entry;)V" } : Jvm.MethodName)) ∈ lw_all := lw_g (lw_at lw_m17 230 rfl) rfl
theorem q4463 : (Jvm.Cond.code ({ cls := "java/util/TreeMap$PrivateEntryIterator", name := "<init>", desc := "(Ljava/util/TreeMap;Ljava/util/TreeMap$Entry;)V" } : Jvm.MethodName) prog_133_method_1_code (3 : Nat) (Option.none : Option Jvm.ClassFile.FieldType)) ∈ lw_all := lw_g (lw_at lw_m17 231 rfl) rfl
theorem q4464 : (Jvm.Cond.methodLink "java/util/TreeMap$PrivateEntryIterator" (7 : Nat) ({ cls := "java/lang/Object", name := "<init>", desc := "()V" } : Jvm.MethodName)) ∈ lw_all := lw_g (lw_at lw_m17 232 rfl) rfl
theorem q4465 : (Jvm.Cond.fieldLink "java/util/TreeMap$PrivateEntryIterator" (26 : Nat) "java/util/TreeMap$PrivateEntryIterator" "next" "Ljava/util/TreeMap$Entry;") ∈ lw_all := lw_g (lw_at lw_m17 233 rfl) rfl
theorem q4466 : (Jvm.Cond.fieldLink "java/util/TreeMap$PrivateEntryIterator" (22 : Nat) "java/util/TreeMap$PrivateEntryIterator" "lastReturned" "Ljava/util/TreeMap$Entry;") ∈ lw_all := lw_g (lw_at lw_m17 234 rfl) rfl
theorem q4467 : (Jvm.Cond.fieldLink "java/util/TreeMap$PrivateEntryIterator" (19 : Nat) "java/util/TreeMap$PrivateEntryIterator" "expectedModCount" "I") ∈ lw_all := lw_g (lw_at lw_m17 235 rfl) rfl
theorem q4468 : (Jvm.Cond.fieldLink "java/util/TreeMap$PrivateEntryIterator" (1 : Nat) "java/util/TreeMap$PrivateEntryIterator" "this$0" "Ljava/util/TreeMap;") ∈ lw_all := lw_g (lw_at lw_m17 236 rfl) rfl
theorem q4470 : (Jvm.Cond.soleField "java/util/TreeMap$PrivateEntryIterator" "next") ∈ lw_all := lw_g (lw_at lw_m17 238 rfl) rfl
theorem q4472 : (Jvm.Cond.soleField "java/util/TreeMap$PrivateEntryIterator" "lastReturned") ∈ lw_all := lw_g (lw_at lw_m18 0 rfl) rfl
theorem q4474 : (Jvm.Cond.soleField "java/util/TreeMap$PrivateEntryIterator" "expectedModCount") ∈ lw_all := lw_g (lw_at lw_m18 2 rfl) rfl
theorem q4476 : (Jvm.Cond.soleField "java/util/TreeMap$PrivateEntryIterator" "this$0") ∈ lw_all := lw_g (lw_at lw_m18 4 rfl) rfl
theorem q4639 : (Jvm.Cond.instanceMethod ({ cls := "java/util/TreeMap$PrivateEntryIterator", name := "remove", desc := "()V" } : Jvm.MethodName)) ∈ lw_all := lw_g (lw_at lw_m18 167 rfl) rfl
theorem q4640 : (Jvm.Cond.publicMethod ({ cls := "java/util/TreeMap$PrivateEntryIterator", name := "remove", desc := "()V" } : Jvm.MethodName)) ∈ lw_tbl := lw_at lw_m18 168 rfl
theorem q4641 : (Jvm.Cond.code ({ cls := "java/util/TreeMap$PrivateEntryIterator", name := "remove", desc := "()V" } : Jvm.MethodName) prog_133_method_5_code (1 : Nat) (Option.none : Option Jvm.ClassFile.FieldType)) ∈ lw_all := lw_g (lw_at lw_m18 169 rfl) rfl
theorem q4642 : (Jvm.Cond.classLink "java/util/TreeMap$PrivateEntryIterator" (42 : Nat) "java/lang/IllegalStateException") ∈ lw_all := lw_g (lw_at lw_m18 170 rfl) rfl
theorem q4643 : (Jvm.Cond.methodLink "java/util/TreeMap$PrivateEntryIterator" (44 : Nat) ({ cls := "java/lang/IllegalStateException", name := "<init>", desc := "()V" } : Jvm.MethodName)) ∈ lw_all := lw_g (lw_at lw_m18 171 rfl) rfl
theorem q4644 : (Jvm.Cond.methodLinkNest "java/util/TreeMap$PrivateEntryIterator" (53 : Nat) ({ cls := "java/util/TreeMap", name := "deleteEntry", desc := "(Ljava/util/TreeMap$Entry;)V" } : Jvm.MethodName) "java/util/TreeMap") ∈ lw_tbl := lw_at lw_m18 172 rfl
