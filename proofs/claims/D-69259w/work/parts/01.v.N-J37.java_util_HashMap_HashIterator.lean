/-! java/util/HashMap$HashIterator -/
set_option maxRecDepth 100000
def RJ37 : String := "java/util/HashMap$HashIterator"
abbrev cJ37_hasNext : ByteArray := prog_110_method_2_code
def yJ37_hasNext : MethodName := ⟨RJ37, "hasNext", "()Z"⟩
def dkwJ37_hasNext_0 : List UInt8 := [42, 180, 0, 26, 198, 0, 7, 4, 167, 0, 4, 3, 172]
abbrev dktJ37_hasNext_0 : List UInt8 := dkwJ37_hasNext_0 ++ []
theorem dksJ37_hasNext_0 : cJ37_hasNext.data.toList.drop 0 = dktJ37_hasNext_0 := by decide +kernel
theorem dJ37_hasNext_0 : decode cJ37_hasNext 0 = .ok (.aload_n 0, 1) := dk_42 (dk_at dksJ37_hasNext_0 0 rfl rfl)
theorem dJ37_hasNext_1 : decode cJ37_hasNext 1 = .ok (.getfield 26, 3) := dk_180 0 26 (dk_at dksJ37_hasNext_0 1 rfl rfl)
theorem dJ37_hasNext_4 : decode cJ37_hasNext 4 = .ok (.ifnull 7, 3) := dk_198 0 7 (dk_at dksJ37_hasNext_0 4 rfl rfl)
theorem dJ37_hasNext_7 : decode cJ37_hasNext 7 = .ok (.iconst 1, 1) := dk_4 (dk_at dksJ37_hasNext_0 7 rfl rfl)
theorem dJ37_hasNext_8 : decode cJ37_hasNext 8 = .ok (.goto 4, 3) := dk_167 0 4 (dk_at dksJ37_hasNext_0 8 rfl rfl)
theorem dJ37_hasNext_11 : decode cJ37_hasNext 11 = .ok (.iconst 0, 1) := dk_3 (dk_at dksJ37_hasNext_0 11 rfl rfl)
theorem dJ37_hasNext_12 : decode cJ37_hasNext 12 = .ok (.ireturn, 1) := dk_172 (dk_at dksJ37_hasNext_0 12 rfl rfl)
abbrev cJ37_nextNode : ByteArray := prog_110_method_3_code
def yJ37_nextNode : MethodName := ⟨RJ37, "nextNode", "()Ljava/util/HashMap$Node;"⟩
def dkwJ37_nextNode_4 : List UInt8 := [181, 0, 26, 198, 255, 229, 44, 176]
abbrev dktJ37_nextNode_4 : List UInt8 := dkwJ37_nextNode_4 ++ []
def dkwJ37_nextNode_3 : List UInt8 := [180, 0, 33, 43, 190, 162, 0, 24, 42, 43, 42, 89, 180, 0, 33, 90, 4, 96, 181, 0, 33, 50, 90]
abbrev dktJ37_nextNode_3 : List UInt8 := dkwJ37_nextNode_3 ++ dktJ37_nextNode_4
def dkwJ37_nextNode_2 : List UInt8 := [180, 0, 45, 90, 181, 0, 26, 199, 0, 45, 42, 180, 0, 1, 180, 0, 22, 89, 76, 198, 0, 33, 42]
abbrev dktJ37_nextNode_2 : List UInt8 := dkwJ37_nextNode_2 ++ dktJ37_nextNode_3
def dkwJ37_nextNode_1 : List UInt8 := [183, 0, 41, 191, 44, 199, 0, 11, 187, 0, 42, 89, 183, 0, 44, 191, 42, 42, 44, 90, 181, 0, 30]
abbrev dktJ37_nextNode_1 : List UInt8 := dkwJ37_nextNode_1 ++ dktJ37_nextNode_2
def dkwJ37_nextNode_0 : List UInt8 := [42, 180, 0, 26, 77, 42, 180, 0, 1, 180, 0, 13, 42, 180, 0, 19, 159, 0, 11, 187, 0, 39, 89]
abbrev dktJ37_nextNode_0 : List UInt8 := dkwJ37_nextNode_0 ++ dktJ37_nextNode_1
theorem dksJ37_nextNode_0 : cJ37_nextNode.data.toList.drop 0 = dktJ37_nextNode_0 := by decide +kernel
theorem dksJ37_nextNode_1 : cJ37_nextNode.data.toList.drop 23 = dktJ37_nextNode_1 := dk_seg dksJ37_nextNode_0 23 rfl rfl
theorem dksJ37_nextNode_2 : cJ37_nextNode.data.toList.drop 46 = dktJ37_nextNode_2 := dk_seg dksJ37_nextNode_1 23 rfl rfl
theorem dksJ37_nextNode_3 : cJ37_nextNode.data.toList.drop 69 = dktJ37_nextNode_3 := dk_seg dksJ37_nextNode_2 23 rfl rfl
theorem dksJ37_nextNode_4 : cJ37_nextNode.data.toList.drop 92 = dktJ37_nextNode_4 := dk_seg dksJ37_nextNode_3 23 rfl rfl
theorem dJ37_nextNode_0 : decode cJ37_nextNode 0 = .ok (.aload_n 0, 1) := dk_42 (dk_at dksJ37_nextNode_0 0 rfl rfl)
theorem dJ37_nextNode_1 : decode cJ37_nextNode 1 = .ok (.getfield 26, 3) := dk_180 0 26 (dk_at dksJ37_nextNode_0 1 rfl rfl)
theorem dJ37_nextNode_4 : decode cJ37_nextNode 4 = .ok (.astore_n 2, 1) := dk_77 (dk_at dksJ37_nextNode_0 4 rfl rfl)
theorem dJ37_nextNode_5 : decode cJ37_nextNode 5 = .ok (.aload_n 0, 1) := dk_42 (dk_at dksJ37_nextNode_0 5 rfl rfl)
theorem dJ37_nextNode_6 : decode cJ37_nextNode 6 = .ok (.getfield 1, 3) := dk_180 0 1 (dk_at dksJ37_nextNode_0 6 rfl rfl)
theorem dJ37_nextNode_9 : decode cJ37_nextNode 9 = .ok (.getfield 13, 3) := dk_180 0 13 (dk_at dksJ37_nextNode_0 9 rfl rfl)
theorem dJ37_nextNode_12 : decode cJ37_nextNode 12 = .ok (.aload_n 0, 1) := dk_42 (dk_at dksJ37_nextNode_0 12 rfl rfl)
theorem dJ37_nextNode_13 : decode cJ37_nextNode 13 = .ok (.getfield 19, 3) := dk_180 0 19 (dk_at dksJ37_nextNode_0 13 rfl rfl)
theorem dJ37_nextNode_16 : decode cJ37_nextNode 16 = .ok (.if_icmp .eq 11, 3) := dk_159 0 11 (dk_at dksJ37_nextNode_0 16 rfl rfl)
theorem dJ37_nextNode_19 : decode cJ37_nextNode 19 = .ok (.new 39, 3) := dk_187 0 39 (dk_at dksJ37_nextNode_0 19 rfl rfl)
theorem dJ37_nextNode_22 : decode cJ37_nextNode 22 = .ok (.dup, 1) := dk_89 (dk_at dksJ37_nextNode_0 22 rfl rfl)
theorem dJ37_nextNode_23 : decode cJ37_nextNode 23 = .ok (.invokespecial 41, 3) := dk_183 0 41 (dk_at dksJ37_nextNode_1 0 rfl rfl)
theorem dJ37_nextNode_26 : decode cJ37_nextNode 26 = .ok (.athrow, 1) := dk_191 (dk_at dksJ37_nextNode_1 3 rfl rfl)
theorem dJ37_nextNode_27 : decode cJ37_nextNode 27 = .ok (.aload_n 2, 1) := dk_44 (dk_at dksJ37_nextNode_1 4 rfl rfl)
theorem dJ37_nextNode_28 : decode cJ37_nextNode 28 = .ok (.ifnonnull 11, 3) := dk_199 0 11 (dk_at dksJ37_nextNode_1 5 rfl rfl)
theorem dJ37_nextNode_31 : decode cJ37_nextNode 31 = .ok (.new 42, 3) := dk_187 0 42 (dk_at dksJ37_nextNode_1 8 rfl rfl)
theorem dJ37_nextNode_34 : decode cJ37_nextNode 34 = .ok (.dup, 1) := dk_89 (dk_at dksJ37_nextNode_1 11 rfl rfl)
theorem dJ37_nextNode_35 : decode cJ37_nextNode 35 = .ok (.invokespecial 44, 3) := dk_183 0 44 (dk_at dksJ37_nextNode_1 12 rfl rfl)
theorem dJ37_nextNode_38 : decode cJ37_nextNode 38 = .ok (.athrow, 1) := dk_191 (dk_at dksJ37_nextNode_1 15 rfl rfl)
theorem dJ37_nextNode_39 : decode cJ37_nextNode 39 = .ok (.aload_n 0, 1) := dk_42 (dk_at dksJ37_nextNode_1 16 rfl rfl)
theorem dJ37_nextNode_40 : decode cJ37_nextNode 40 = .ok (.aload_n 0, 1) := dk_42 (dk_at dksJ37_nextNode_1 17 rfl rfl)
theorem dJ37_nextNode_41 : decode cJ37_nextNode 41 = .ok (.aload_n 2, 1) := dk_44 (dk_at dksJ37_nextNode_1 18 rfl rfl)
theorem dJ37_nextNode_42 : decode cJ37_nextNode 42 = .ok (.dup_x1, 1) := dk_90 (dk_at dksJ37_nextNode_1 19 rfl rfl)
theorem dJ37_nextNode_43 : decode cJ37_nextNode 43 = .ok (.putfield 30, 3) := dk_181 0 30 (dk_at dksJ37_nextNode_1 20 rfl rfl)
theorem dJ37_nextNode_46 : decode cJ37_nextNode 46 = .ok (.getfield 45, 3) := dk_180 0 45 (dk_at dksJ37_nextNode_2 0 rfl rfl)
theorem dJ37_nextNode_49 : decode cJ37_nextNode 49 = .ok (.dup_x1, 1) := dk_90 (dk_at dksJ37_nextNode_2 3 rfl rfl)
theorem dJ37_nextNode_50 : decode cJ37_nextNode 50 = .ok (.putfield 26, 3) := dk_181 0 26 (dk_at dksJ37_nextNode_2 4 rfl rfl)
theorem dJ37_nextNode_53 : decode cJ37_nextNode 53 = .ok (.ifnonnull 45, 3) := dk_199 0 45 (dk_at dksJ37_nextNode_2 7 rfl rfl)
theorem dJ37_nextNode_56 : decode cJ37_nextNode 56 = .ok (.aload_n 0, 1) := dk_42 (dk_at dksJ37_nextNode_2 10 rfl rfl)
theorem dJ37_nextNode_57 : decode cJ37_nextNode 57 = .ok (.getfield 1, 3) := dk_180 0 1 (dk_at dksJ37_nextNode_2 11 rfl rfl)
theorem dJ37_nextNode_60 : decode cJ37_nextNode 60 = .ok (.getfield 22, 3) := dk_180 0 22 (dk_at dksJ37_nextNode_2 14 rfl rfl)
theorem dJ37_nextNode_63 : decode cJ37_nextNode 63 = .ok (.dup, 1) := dk_89 (dk_at dksJ37_nextNode_2 17 rfl rfl)
theorem dJ37_nextNode_64 : decode cJ37_nextNode 64 = .ok (.astore_n 1, 1) := dk_76 (dk_at dksJ37_nextNode_2 18 rfl rfl)
theorem dJ37_nextNode_65 : decode cJ37_nextNode 65 = .ok (.ifnull 33, 3) := dk_198 0 33 (dk_at dksJ37_nextNode_2 19 rfl rfl)
theorem dJ37_nextNode_68 : decode cJ37_nextNode 68 = .ok (.aload_n 0, 1) := dk_42 (dk_at dksJ37_nextNode_2 22 rfl rfl)
theorem dJ37_nextNode_69 : decode cJ37_nextNode 69 = .ok (.getfield 33, 3) := dk_180 0 33 (dk_at dksJ37_nextNode_3 0 rfl rfl)
theorem dJ37_nextNode_72 : decode cJ37_nextNode 72 = .ok (.aload_n 1, 1) := dk_43 (dk_at dksJ37_nextNode_3 3 rfl rfl)
theorem dJ37_nextNode_73 : decode cJ37_nextNode 73 = .ok (.arraylength, 1) := dk_190 (dk_at dksJ37_nextNode_3 4 rfl rfl)
theorem dJ37_nextNode_74 : decode cJ37_nextNode 74 = .ok (.if_icmp .ge 24, 3) := dk_162 0 24 (dk_at dksJ37_nextNode_3 5 rfl rfl)
theorem dJ37_nextNode_77 : decode cJ37_nextNode 77 = .ok (.aload_n 0, 1) := dk_42 (dk_at dksJ37_nextNode_3 8 rfl rfl)
theorem dJ37_nextNode_78 : decode cJ37_nextNode 78 = .ok (.aload_n 1, 1) := dk_43 (dk_at dksJ37_nextNode_3 9 rfl rfl)
theorem dJ37_nextNode_79 : decode cJ37_nextNode 79 = .ok (.aload_n 0, 1) := dk_42 (dk_at dksJ37_nextNode_3 10 rfl rfl)
theorem dJ37_nextNode_80 : decode cJ37_nextNode 80 = .ok (.dup, 1) := dk_89 (dk_at dksJ37_nextNode_3 11 rfl rfl)
theorem dJ37_nextNode_81 : decode cJ37_nextNode 81 = .ok (.getfield 33, 3) := dk_180 0 33 (dk_at dksJ37_nextNode_3 12 rfl rfl)
theorem dJ37_nextNode_84 : decode cJ37_nextNode 84 = .ok (.dup_x1, 1) := dk_90 (dk_at dksJ37_nextNode_3 15 rfl rfl)
theorem dJ37_nextNode_85 : decode cJ37_nextNode 85 = .ok (.iconst 1, 1) := dk_4 (dk_at dksJ37_nextNode_3 16 rfl rfl)
theorem dJ37_nextNode_86 : decode cJ37_nextNode 86 = .ok (.iadd, 1) := dk_96 (dk_at dksJ37_nextNode_3 17 rfl rfl)
theorem dJ37_nextNode_87 : decode cJ37_nextNode 87 = .ok (.putfield 33, 3) := dk_181 0 33 (dk_at dksJ37_nextNode_3 18 rfl rfl)
theorem dJ37_nextNode_90 : decode cJ37_nextNode 90 = .ok (.aaload, 1) := dk_50 (dk_at dksJ37_nextNode_3 21 rfl rfl)
theorem dJ37_nextNode_91 : decode cJ37_nextNode 91 = .ok (.dup_x1, 1) := dk_90 (dk_at dksJ37_nextNode_3 22 rfl rfl)
theorem dJ37_nextNode_92 : decode cJ37_nextNode 92 = .ok (.putfield 26, 3) := dk_181 0 26 (dk_at dksJ37_nextNode_4 0 rfl rfl)
theorem dJ37_nextNode_95 : decode cJ37_nextNode 95 = .ok (.ifnull (-27), 3) := dk_198 255 229 (dk_at dksJ37_nextNode_4 3 rfl rfl)
theorem dJ37_nextNode_98 : decode cJ37_nextNode 98 = .ok (.aload_n 2, 1) := dk_44 (dk_at dksJ37_nextNode_4 6 rfl rfl)
theorem dJ37_nextNode_99 : decode cJ37_nextNode 99 = .ok (.areturn, 1) := dk_176 (dk_at dksJ37_nextNode_4 7 rfl rfl)
abbrev cJ37_init : ByteArray := prog_110_method_1_code
def yJ37_init : MethodName := ⟨RJ37, "<init>", "(Ljava/util/HashMap;)V"⟩
def dkwJ37_init_3 : List UInt8 := [181, 0, 26, 198, 255, 229, 177]
abbrev dktJ37_init_3 : List UInt8 := dkwJ37_init_3 ++ []
def dkwJ37_init_2 : List UInt8 := [42, 180, 0, 33, 44, 190, 162, 0, 24, 42, 44, 42, 89, 180, 0, 33, 90, 4, 96, 181, 0, 33, 50, 90]
abbrev dktJ37_init_2 : List UInt8 := dkwJ37_init_2 ++ dktJ37_init_3
def dkwJ37_init_1 : List UInt8 := [1, 90, 181, 0, 26, 181, 0, 30, 42, 3, 181, 0, 33, 44, 198, 0, 40, 43, 180, 0, 36, 158, 0, 33]
abbrev dktJ37_init_1 : List UInt8 := dkwJ37_init_1 ++ dktJ37_init_2
def dkwJ37_init_0 : List UInt8 := [42, 43, 181, 0, 1, 42, 183, 0, 7, 42, 43, 180, 0, 13, 181, 0, 19, 43, 180, 0, 22, 77, 42, 42]
abbrev dktJ37_init_0 : List UInt8 := dkwJ37_init_0 ++ dktJ37_init_1
theorem dksJ37_init_0 : cJ37_init.data.toList.drop 0 = dktJ37_init_0 := by decide +kernel
theorem dksJ37_init_1 : cJ37_init.data.toList.drop 24 = dktJ37_init_1 := dk_seg dksJ37_init_0 24 rfl rfl
theorem dksJ37_init_2 : cJ37_init.data.toList.drop 48 = dktJ37_init_2 := dk_seg dksJ37_init_1 24 rfl rfl
theorem dksJ37_init_3 : cJ37_init.data.toList.drop 72 = dktJ37_init_3 := dk_seg dksJ37_init_2 24 rfl rfl
theorem dJ37_init_0 : decode cJ37_init 0 = .ok (.aload_n 0, 1) := dk_42 (dk_at dksJ37_init_0 0 rfl rfl)
theorem dJ37_init_1 : decode cJ37_init 1 = .ok (.aload_n 1, 1) := dk_43 (dk_at dksJ37_init_0 1 rfl rfl)
theorem dJ37_init_2 : decode cJ37_init 2 = .ok (.putfield 1, 3) := dk_181 0 1 (dk_at dksJ37_init_0 2 rfl rfl)
theorem dJ37_init_5 : decode cJ37_init 5 = .ok (.aload_n 0, 1) := dk_42 (dk_at dksJ37_init_0 5 rfl rfl)
theorem dJ37_init_6 : decode cJ37_init 6 = .ok (.invokespecial 7, 3) := dk_183 0 7 (dk_at dksJ37_init_0 6 rfl rfl)
theorem dJ37_init_9 : decode cJ37_init 9 = .ok (.aload_n 0, 1) := dk_42 (dk_at dksJ37_init_0 9 rfl rfl)
theorem dJ37_init_10 : decode cJ37_init 10 = .ok (.aload_n 1, 1) := dk_43 (dk_at dksJ37_init_0 10 rfl rfl)
theorem dJ37_init_11 : decode cJ37_init 11 = .ok (.getfield 13, 3) := dk_180 0 13 (dk_at dksJ37_init_0 11 rfl rfl)
theorem dJ37_init_14 : decode cJ37_init 14 = .ok (.putfield 19, 3) := dk_181 0 19 (dk_at dksJ37_init_0 14 rfl rfl)
theorem dJ37_init_17 : decode cJ37_init 17 = .ok (.aload_n 1, 1) := dk_43 (dk_at dksJ37_init_0 17 rfl rfl)
theorem dJ37_init_18 : decode cJ37_init 18 = .ok (.getfield 22, 3) := dk_180 0 22 (dk_at dksJ37_init_0 18 rfl rfl)
theorem dJ37_init_21 : decode cJ37_init 21 = .ok (.astore_n 2, 1) := dk_77 (dk_at dksJ37_init_0 21 rfl rfl)
theorem dJ37_init_22 : decode cJ37_init 22 = .ok (.aload_n 0, 1) := dk_42 (dk_at dksJ37_init_0 22 rfl rfl)
theorem dJ37_init_23 : decode cJ37_init 23 = .ok (.aload_n 0, 1) := dk_42 (dk_at dksJ37_init_0 23 rfl rfl)
theorem dJ37_init_24 : decode cJ37_init 24 = .ok (.aconst_null, 1) := dk_1 (dk_at dksJ37_init_1 0 rfl rfl)
theorem dJ37_init_25 : decode cJ37_init 25 = .ok (.dup_x1, 1) := dk_90 (dk_at dksJ37_init_1 1 rfl rfl)
theorem dJ37_init_26 : decode cJ37_init 26 = .ok (.putfield 26, 3) := dk_181 0 26 (dk_at dksJ37_init_1 2 rfl rfl)
theorem dJ37_init_29 : decode cJ37_init 29 = .ok (.putfield 30, 3) := dk_181 0 30 (dk_at dksJ37_init_1 5 rfl rfl)
theorem dJ37_init_32 : decode cJ37_init 32 = .ok (.aload_n 0, 1) := dk_42 (dk_at dksJ37_init_1 8 rfl rfl)
theorem dJ37_init_33 : decode cJ37_init 33 = .ok (.iconst 0, 1) := dk_3 (dk_at dksJ37_init_1 9 rfl rfl)
theorem dJ37_init_34 : decode cJ37_init 34 = .ok (.putfield 33, 3) := dk_181 0 33 (dk_at dksJ37_init_1 10 rfl rfl)
theorem dJ37_init_37 : decode cJ37_init 37 = .ok (.aload_n 2, 1) := dk_44 (dk_at dksJ37_init_1 13 rfl rfl)
theorem dJ37_init_38 : decode cJ37_init 38 = .ok (.ifnull 40, 3) := dk_198 0 40 (dk_at dksJ37_init_1 14 rfl rfl)
theorem dJ37_init_41 : decode cJ37_init 41 = .ok (.aload_n 1, 1) := dk_43 (dk_at dksJ37_init_1 17 rfl rfl)
theorem dJ37_init_42 : decode cJ37_init 42 = .ok (.getfield 36, 3) := dk_180 0 36 (dk_at dksJ37_init_1 18 rfl rfl)
theorem dJ37_init_45 : decode cJ37_init 45 = .ok (.ifCond .le 33, 3) := dk_158 0 33 (dk_at dksJ37_init_1 21 rfl rfl)
theorem dJ37_init_48 : decode cJ37_init 48 = .ok (.aload_n 0, 1) := dk_42 (dk_at dksJ37_init_2 0 rfl rfl)
theorem dJ37_init_49 : decode cJ37_init 49 = .ok (.getfield 33, 3) := dk_180 0 33 (dk_at dksJ37_init_2 1 rfl rfl)
theorem dJ37_init_52 : decode cJ37_init 52 = .ok (.aload_n 2, 1) := dk_44 (dk_at dksJ37_init_2 4 rfl rfl)
theorem dJ37_init_53 : decode cJ37_init 53 = .ok (.arraylength, 1) := dk_190 (dk_at dksJ37_init_2 5 rfl rfl)
theorem dJ37_init_54 : decode cJ37_init 54 = .ok (.if_icmp .ge 24, 3) := dk_162 0 24 (dk_at dksJ37_init_2 6 rfl rfl)
theorem dJ37_init_57 : decode cJ37_init 57 = .ok (.aload_n 0, 1) := dk_42 (dk_at dksJ37_init_2 9 rfl rfl)
theorem dJ37_init_58 : decode cJ37_init 58 = .ok (.aload_n 2, 1) := dk_44 (dk_at dksJ37_init_2 10 rfl rfl)
theorem dJ37_init_59 : decode cJ37_init 59 = .ok (.aload_n 0, 1) := dk_42 (dk_at dksJ37_init_2 11 rfl rfl)
theorem dJ37_init_60 : decode cJ37_init 60 = .ok (.dup, 1) := dk_89 (dk_at dksJ37_init_2 12 rfl rfl)
theorem dJ37_init_61 : decode cJ37_init 61 = .ok (.getfield 33, 3) := dk_180 0 33 (dk_at dksJ37_init_2 13 rfl rfl)
theorem dJ37_init_64 : decode cJ37_init 64 = .ok (.dup_x1, 1) := dk_90 (dk_at dksJ37_init_2 16 rfl rfl)
theorem dJ37_init_65 : decode cJ37_init 65 = .ok (.iconst 1, 1) := dk_4 (dk_at dksJ37_init_2 17 rfl rfl)
theorem dJ37_init_66 : decode cJ37_init 66 = .ok (.iadd, 1) := dk_96 (dk_at dksJ37_init_2 18 rfl rfl)
theorem dJ37_init_67 : decode cJ37_init 67 = .ok (.putfield 33, 3) := dk_181 0 33 (dk_at dksJ37_init_2 19 rfl rfl)
theorem dJ37_init_70 : decode cJ37_init 70 = .ok (.aaload, 1) := dk_50 (dk_at dksJ37_init_2 22 rfl rfl)
theorem dJ37_init_71 : decode cJ37_init 71 = .ok (.dup_x1, 1) := dk_90 (dk_at dksJ37_init_2 23 rfl rfl)
theorem dJ37_init_72 : decode cJ37_init 72 = .ok (.putfield 26, 3) := dk_181 0 26 (dk_at dksJ37_init_3 0 rfl rfl)
theorem dJ37_init_75 : decode cJ37_init 75 = .ok (.ifnull (-27), 3) := dk_198 255 229 (dk_at dksJ37_init_3 3 rfl rfl)
theorem dJ37_init_78 : decode cJ37_init 78 = .ok (.return_, 1) := dk_177 (dk_at dksJ37_init_3 6 rfl rfl)
abbrev cJ37_remove : ByteArray := prog_110_method_4_code
def yJ37_remove : MethodName := ⟨RJ37, "remove", "()V"⟩
def dkwJ37_remove_3 : List UInt8 := [181, 0, 19, 177]
abbrev dktJ37_remove_3 : List UInt8 := dkwJ37_remove_3 ++ []
def dkwJ37_remove_2 : List UInt8 := [43, 180, 0, 51, 43, 180, 0, 54, 1, 3, 3, 182, 0, 58, 87, 42, 42, 180, 0, 1, 180, 0, 13]
abbrev dktJ37_remove_2 : List UInt8 := dkwJ37_remove_2 ++ dktJ37_remove_3
def dkwJ37_remove_1 : List UInt8 := [42, 180, 0, 19, 159, 0, 11, 187, 0, 39, 89, 183, 0, 41, 191, 42, 1, 181, 0, 30, 42, 180, 0, 1]
abbrev dktJ37_remove_1 : List UInt8 := dkwJ37_remove_1 ++ dktJ37_remove_2
def dkwJ37_remove_0 : List UInt8 := [42, 180, 0, 30, 76, 43, 199, 0, 11, 187, 0, 48, 89, 183, 0, 50, 191, 42, 180, 0, 1, 180, 0, 13]
abbrev dktJ37_remove_0 : List UInt8 := dkwJ37_remove_0 ++ dktJ37_remove_1
theorem dksJ37_remove_0 : cJ37_remove.data.toList.drop 0 = dktJ37_remove_0 := by decide +kernel
theorem dksJ37_remove_1 : cJ37_remove.data.toList.drop 24 = dktJ37_remove_1 := dk_seg dksJ37_remove_0 24 rfl rfl
theorem dksJ37_remove_2 : cJ37_remove.data.toList.drop 48 = dktJ37_remove_2 := dk_seg dksJ37_remove_1 24 rfl rfl
theorem dksJ37_remove_3 : cJ37_remove.data.toList.drop 71 = dktJ37_remove_3 := dk_seg dksJ37_remove_2 23 rfl rfl
theorem dJ37_remove_0 : decode cJ37_remove 0 = .ok (.aload_n 0, 1) := dk_42 (dk_at dksJ37_remove_0 0 rfl rfl)
theorem dJ37_remove_1 : decode cJ37_remove 1 = .ok (.getfield 30, 3) := dk_180 0 30 (dk_at dksJ37_remove_0 1 rfl rfl)
theorem dJ37_remove_4 : decode cJ37_remove 4 = .ok (.astore_n 1, 1) := dk_76 (dk_at dksJ37_remove_0 4 rfl rfl)
theorem dJ37_remove_5 : decode cJ37_remove 5 = .ok (.aload_n 1, 1) := dk_43 (dk_at dksJ37_remove_0 5 rfl rfl)
theorem dJ37_remove_6 : decode cJ37_remove 6 = .ok (.ifnonnull 11, 3) := dk_199 0 11 (dk_at dksJ37_remove_0 6 rfl rfl)
theorem dJ37_remove_9 : decode cJ37_remove 9 = .ok (.new 48, 3) := dk_187 0 48 (dk_at dksJ37_remove_0 9 rfl rfl)
theorem dJ37_remove_12 : decode cJ37_remove 12 = .ok (.dup, 1) := dk_89 (dk_at dksJ37_remove_0 12 rfl rfl)
theorem dJ37_remove_13 : decode cJ37_remove 13 = .ok (.invokespecial 50, 3) := dk_183 0 50 (dk_at dksJ37_remove_0 13 rfl rfl)
theorem dJ37_remove_16 : decode cJ37_remove 16 = .ok (.athrow, 1) := dk_191 (dk_at dksJ37_remove_0 16 rfl rfl)
theorem dJ37_remove_17 : decode cJ37_remove 17 = .ok (.aload_n 0, 1) := dk_42 (dk_at dksJ37_remove_0 17 rfl rfl)
theorem dJ37_remove_18 : decode cJ37_remove 18 = .ok (.getfield 1, 3) := dk_180 0 1 (dk_at dksJ37_remove_0 18 rfl rfl)
theorem dJ37_remove_21 : decode cJ37_remove 21 = .ok (.getfield 13, 3) := dk_180 0 13 (dk_at dksJ37_remove_0 21 rfl rfl)
theorem dJ37_remove_24 : decode cJ37_remove 24 = .ok (.aload_n 0, 1) := dk_42 (dk_at dksJ37_remove_1 0 rfl rfl)
theorem dJ37_remove_25 : decode cJ37_remove 25 = .ok (.getfield 19, 3) := dk_180 0 19 (dk_at dksJ37_remove_1 1 rfl rfl)
theorem dJ37_remove_28 : decode cJ37_remove 28 = .ok (.if_icmp .eq 11, 3) := dk_159 0 11 (dk_at dksJ37_remove_1 4 rfl rfl)
theorem dJ37_remove_31 : decode cJ37_remove 31 = .ok (.new 39, 3) := dk_187 0 39 (dk_at dksJ37_remove_1 7 rfl rfl)
theorem dJ37_remove_34 : decode cJ37_remove 34 = .ok (.dup, 1) := dk_89 (dk_at dksJ37_remove_1 10 rfl rfl)
theorem dJ37_remove_35 : decode cJ37_remove 35 = .ok (.invokespecial 41, 3) := dk_183 0 41 (dk_at dksJ37_remove_1 11 rfl rfl)
theorem dJ37_remove_38 : decode cJ37_remove 38 = .ok (.athrow, 1) := dk_191 (dk_at dksJ37_remove_1 14 rfl rfl)
theorem dJ37_remove_39 : decode cJ37_remove 39 = .ok (.aload_n 0, 1) := dk_42 (dk_at dksJ37_remove_1 15 rfl rfl)
theorem dJ37_remove_40 : decode cJ37_remove 40 = .ok (.aconst_null, 1) := dk_1 (dk_at dksJ37_remove_1 16 rfl rfl)
theorem dJ37_remove_41 : decode cJ37_remove 41 = .ok (.putfield 30, 3) := dk_181 0 30 (dk_at dksJ37_remove_1 17 rfl rfl)
theorem dJ37_remove_44 : decode cJ37_remove 44 = .ok (.aload_n 0, 1) := dk_42 (dk_at dksJ37_remove_1 20 rfl rfl)
theorem dJ37_remove_45 : decode cJ37_remove 45 = .ok (.getfield 1, 3) := dk_180 0 1 (dk_at dksJ37_remove_1 21 rfl rfl)
theorem dJ37_remove_48 : decode cJ37_remove 48 = .ok (.aload_n 1, 1) := dk_43 (dk_at dksJ37_remove_2 0 rfl rfl)
theorem dJ37_remove_49 : decode cJ37_remove 49 = .ok (.getfield 51, 3) := dk_180 0 51 (dk_at dksJ37_remove_2 1 rfl rfl)
theorem dJ37_remove_52 : decode cJ37_remove 52 = .ok (.aload_n 1, 1) := dk_43 (dk_at dksJ37_remove_2 4 rfl rfl)
theorem dJ37_remove_53 : decode cJ37_remove 53 = .ok (.getfield 54, 3) := dk_180 0 54 (dk_at dksJ37_remove_2 5 rfl rfl)
theorem dJ37_remove_56 : decode cJ37_remove 56 = .ok (.aconst_null, 1) := dk_1 (dk_at dksJ37_remove_2 8 rfl rfl)
theorem dJ37_remove_57 : decode cJ37_remove 57 = .ok (.iconst 0, 1) := dk_3 (dk_at dksJ37_remove_2 9 rfl rfl)
theorem dJ37_remove_58 : decode cJ37_remove 58 = .ok (.iconst 0, 1) := dk_3 (dk_at dksJ37_remove_2 10 rfl rfl)
theorem dJ37_remove_59 : decode cJ37_remove 59 = .ok (.invokevirtual 58, 3) := dk_182 0 58 (dk_at dksJ37_remove_2 11 rfl rfl)
theorem dJ37_remove_62 : decode cJ37_remove 62 = .ok (.pop, 1) := dk_87 (dk_at dksJ37_remove_2 14 rfl rfl)
theorem dJ37_remove_63 : decode cJ37_remove 63 = .ok (.aload_n 0, 1) := dk_42 (dk_at dksJ37_remove_2 15 rfl rfl)
theorem dJ37_remove_64 : decode cJ37_remove 64 = .ok (.aload_n 0, 1) := dk_42 (dk_at dksJ37_remove_2 16 rfl rfl)
theorem dJ37_remove_65 : decode cJ37_remove 65 = .ok (.getfield 1, 3) := dk_180 0 1 (dk_at dksJ37_remove_2 17 rfl rfl)
theorem dJ37_remove_68 : decode cJ37_remove 68 = .ok (.getfield 13, 3) := dk_180 0 13 (dk_at dksJ37_remove_2 20 rfl rfl)
theorem dJ37_remove_71 : decode cJ37_remove 71 = .ok (.putfield 19, 3) := dk_181 0 19 (dk_at dksJ37_remove_3 0 rfl rfl)
theorem dJ37_remove_74 : decode cJ37_remove 74 = .ok (.return_, 1) := dk_177 (dk_at dksJ37_remove_3 3 rfl rfl)
theorem q495 : (Jvm.Cond.initialized "java/util/HashMap$HashIterator") ∈ lw_all := lw_g (lw_at lw_m1 103 rfl) rfl
theorem q1831 : (Jvm.Cond.fieldLink "java/util/HashMap$HashIterator" (22 : Nat) "java/util/HashMap" "table" "[Ljava/util/HashMap$Node;") ∈ lw_all := lw_g (lw_at lw_m6 239 rfl) rfl
theorem q1833 : (Jvm.Cond.fieldLink "java/util/HashMap$HashIterator" (36 : Nat) "java/util/HashMap" "size" "I") ∈ lw_all := lw_g (lw_at lw_m7 1 rfl) rfl
theorem q1835 : (Jvm.Cond.fieldLink "java/util/HashMap$HashIterator" (13 : Nat) "java/util/HashMap" "modCount" "I") ∈ lw_all := lw_g (lw_at lw_m7 3 rfl) rfl
theorem q2983 : (Jvm.Cond.instanceMethod ({ cls := "java/util/HashMap$HashIterator", name := "hasNext", desc := "()Z" } : Jvm.MethodName)) ∈ lw_all := lw_g (lw_at lw_m11 191 rfl) rfl
theorem q2984 : (Jvm.Cond.publicMethod ({ cls := "java/util/HashMap$HashIterator", name := "hasNext", desc := "()Z" } : Jvm.MethodName)) ∈ lw_tbl := lw_at lw_m11 192 rfl
theorem q2985 : (Jvm.Cond.code ({ cls := "java/util/HashMap$HashIterator", name := "hasNext", desc := "()Z" } : Jvm.MethodName) prog_110_method_2_code (1 : Nat) (Option.some Jvm.ClassFile.FieldType.boolean)) ∈ lw_all := lw_g (lw_at lw_m11 193 rfl) rfl
theorem q3023 : (Jvm.Cond.declares ({ cls := "java/util/HashMap$HashIterator", name := "nextNode", desc := "()Ljava/util/HashMap$Node;" } : Jvm.MethodName)) ∈ lw_tbl := lw_at lw_m11 231 rfl
theorem q3025 : (Jvm.Cond.instanceMethod ({ cls := "java/util/HashMap$HashIterator", name := "nextNode", desc := "()Ljava/util/HashMap$Node;" } : Jvm.MethodName)) ∈ lw_all := lw_g (lw_at lw_m11 233 rfl) rfl
theorem q3026 : (Jvm.Cond.code ({ cls := "java/util/HashMap$HashIterator", name := "nextNode", desc := "()Ljava/util/HashMap$Node;" } : Jvm.MethodName) prog_110_method_3_code (3 : Nat) (Option.some (Jvm.ClassFile.FieldType.object "java/util/HashMap$Node"))) ∈ lw_all := lw_g (lw_at lw_m11 234 rfl) rfl
theorem q3772 : (Jvm.Cond.fieldLink "java/util/HashMap$HashIterator" (51 : Nat) "java/util/HashMap$Node" "hash" "I") ∈ lw_all := lw_g (lw_at lw_m15 20 rfl) rfl
theorem q3778 : (Jvm.Cond.fieldLink "java/util/HashMap$HashIterator" (54 : Nat) "java/util/HashMap$Node" "key" "Ljava/lang/Object;") ∈ lw_all := lw_g (lw_at lw_m15 26 rfl) rfl
theorem q3783 : (Jvm.Cond.fieldLink "java/util/HashMap$HashIterator" (45 : Nat) "java/util/HashMap$Node" "next" "Ljava/util/HashMap$Node;") ∈ lw_all := lw_g (lw_at lw_m15 31 rfl) rfl
theorem q4405 : (Jvm.Cond.instanceMethod ({ cls := "java/util/HashMap$HashIterator", name := "<init>", desc := "(Ljava/util/HashMap;)V" } : Jvm.MethodName)) ∈ lw_all := lw_g (lw_at lw_m17 173 rfl) rfl
theorem q4406 : (Jvm.Cond.code ({ cls := "java/util/HashMap$HashIterator", name := "<init>", desc := "(Ljava/util/HashMap;)V" } : Jvm.MethodName) prog_110_method_1_code (3 : Nat) (Option.none : Option Jvm.ClassFile.FieldType)) ∈ lw_all := lw_g (lw_at lw_m17 174 rfl) rfl
theorem q4407 : (Jvm.Cond.methodLink "java/util/HashMap$HashIterator" (7 : Nat) ({ cls := "java/lang/Object", name := "<init>", desc := "()V" } : Jvm.MethodName)) ∈ lw_all := lw_g (lw_at lw_m17 175 rfl) rfl
theorem q4408 : (Jvm.Cond.fieldLink "java/util/HashMap$HashIterator" (26 : Nat) "java/util/HashMap$HashIterator" "next" "Ljava/util/HashMap$Node;") ∈ lw_all := lw_g (lw_at lw_m17 176 rfl) rfl
theorem q4409 : (Jvm.Cond.fieldLink "java/util/HashMap$HashIterator" (30 : Nat) "java/util/HashMap$HashIterator" "current" "Ljava/util/HashMap$Node;") ∈ lw_all := lw_g (lw_at lw_m17 177 rfl) rfl
theorem q4410 : (Jvm.Cond.fieldLink "java/util/HashMap$HashIterator" (19 : Nat) "java/util/HashMap$HashIterator" "expectedModCount" "I") ∈ lw_all := lw_g (lw_at lw_m17 178 rfl) rfl
theorem q4411 : (Jvm.Cond.fieldLink "java/util/HashMap$HashIterator" (33 : Nat) "java/util/HashMap$HashIterator" "index" "I") ∈ lw_all := lw_g (lw_at lw_m17 179 rfl) rfl
theorem q4412 : (Jvm.Cond.fieldLink "java/util/HashMap$HashIterator" (1 : Nat) "java/util/HashMap$HashIterator" "this$0" "Ljava/util/HashMap;") ∈ lw_all := lw_g (lw_at lw_m17 180 rfl) rfl
theorem q4414 : (Jvm.Cond.soleField "java/util/HashMap$HashIterator" "next") ∈ lw_all := lw_g (lw_at lw_m17 182 rfl) rfl
theorem q4416 : (Jvm.Cond.soleField "java/util/HashMap$HashIterator" "current") ∈ lw_all := lw_g (lw_at lw_m17 184 rfl) rfl
theorem q4418 : (Jvm.Cond.soleField "java/util/HashMap$HashIterator" "expectedModCount") ∈ lw_all := lw_g (lw_at lw_m17 186 rfl) rfl
theorem q4420 : (Jvm.Cond.soleField "java/util/HashMap$HashIterator" "index") ∈ lw_all := lw_g (lw_at lw_m17 188 rfl) rfl
theorem q4422 : (Jvm.Cond.soleField "java/util/HashMap$HashIterator" "this$0") ∈ lw_all := lw_g (lw_at lw_m17 190 rfl) rfl
theorem q4613 : (Jvm.Cond.instanceMethod ({ cls := "java/util/HashMap$HashIterator", name := "remove", desc := "()V" } : Jvm.MethodName)) ∈ lw_all := lw_g (lw_at lw_m18 141 rfl) rfl
theorem q4614 : (Jvm.Cond.publicMethod ({ cls := "java/util/HashMap$HashIterator", name := "remove", desc := "()V" } : Jvm.MethodName)) ∈ lw_tbl := lw_at lw_m18 142 rfl
theorem q4615 : (Jvm.Cond.code ({ cls := "java/util/HashMap$HashIterator", name := "remove", desc := "()V" } : Jvm.MethodName) prog_110_method_4_code (2 : Nat) (Option.none : Option Jvm.ClassFile.FieldType)) ∈ lw_all := lw_g (lw_at lw_m18 143 rfl) rfl
theorem q4616 : (Jvm.Cond.classLink "java/util/HashMap$HashIterator" (48 : Nat) "java/lang/IllegalStateException") ∈ lw_all := lw_g (lw_at lw_m18 144 rfl) rfl
theorem q4617 : (Jvm.Cond.methodLink "java/util/HashMap$HashIterator" (50 : Nat) ({ cls := "java/lang/IllegalStateException", name := "<init>", desc := "()V" } : Jvm.MethodName)) ∈ lw_all := lw_g (lw_at lw_m18 145 rfl) rfl
theorem q4618 : (Jvm.Cond.methodLink "java/util/HashMap$HashIterator" (58 : Nat) ({ cls := "java/util/HashMap", name := "removeNode", desc := "(ILjava/lang/Object;Ljava/lang/Object;ZZ)Ljava/util/HashMap$Node;" } : Jvm.MethodName)) ∈ lw_all := lw_g (lw_at lw_m18 146 rfl) rfl
