/-! java/lang/AbstractStringBuilder -/
set_option maxRecDepth 100000
def RJ18 : String := "java/lang/AbstractStringBuilder"
abbrev cJ18_init : ByteArray := prog_67_method_2_code
def yJ18_init : MethodName := ⟨RJ18, "<init>", "(I)V"⟩
def dkwJ18_init_1 : List UInt8 := [167, 0, 16, 42, 27, 184, 0, 26, 181, 0, 15, 42, 4, 181, 0, 22, 177]
abbrev dktJ18_init_1 : List UInt8 := dkwJ18_init_1 ++ []
def dkwJ18_init_0 : List UInt8 := [42, 183, 0, 3, 178, 0, 18, 153, 0, 18, 42, 27, 188, 8, 181, 0, 15, 42, 3, 181, 0, 22]
abbrev dktJ18_init_0 : List UInt8 := dkwJ18_init_0 ++ dktJ18_init_1
theorem dksJ18_init_0 : cJ18_init.data.toList.drop 0 = dktJ18_init_0 := by decide +kernel
theorem dksJ18_init_1 : cJ18_init.data.toList.drop 22 = dktJ18_init_1 := dk_seg dksJ18_init_0 22 rfl rfl
theorem dJ18_init_0 : decode cJ18_init 0 = .ok (.aload_n 0, 1) := dk_42 (dk_at dksJ18_init_0 0 rfl rfl)
theorem dJ18_init_1 : decode cJ18_init 1 = .ok (.invokespecial 3, 3) := dk_183 0 3 (dk_at dksJ18_init_0 1 rfl rfl)
theorem dJ18_init_4 : decode cJ18_init 4 = .ok (.getstatic 18, 3) := dk_178 0 18 (dk_at dksJ18_init_0 4 rfl rfl)
theorem dJ18_init_7 : decode cJ18_init 7 = .ok (.ifCond .eq 18, 3) := dk_153 0 18 (dk_at dksJ18_init_0 7 rfl rfl)
theorem dJ18_init_10 : decode cJ18_init 10 = .ok (.aload_n 0, 1) := dk_42 (dk_at dksJ18_init_0 10 rfl rfl)
theorem dJ18_init_11 : decode cJ18_init 11 = .ok (.iload_n 1, 1) := dk_27 (dk_at dksJ18_init_0 11 rfl rfl)
theorem dJ18_init_12 : decode cJ18_init 12 = .ok (.newarray .byte, 2) := dk_188_8 (dk_at dksJ18_init_0 12 rfl rfl)
theorem dJ18_init_14 : decode cJ18_init 14 = .ok (.putfield 15, 3) := dk_181 0 15 (dk_at dksJ18_init_0 14 rfl rfl)
theorem dJ18_init_17 : decode cJ18_init 17 = .ok (.aload_n 0, 1) := dk_42 (dk_at dksJ18_init_0 17 rfl rfl)
theorem dJ18_init_18 : decode cJ18_init 18 = .ok (.iconst 0, 1) := dk_3 (dk_at dksJ18_init_0 18 rfl rfl)
theorem dJ18_init_19 : decode cJ18_init 19 = .ok (.putfield 22, 3) := dk_181 0 22 (dk_at dksJ18_init_0 19 rfl rfl)
theorem dJ18_init_22 : decode cJ18_init 22 = .ok (.goto 16, 3) := dk_167 0 16 (dk_at dksJ18_init_1 0 rfl rfl)
theorem dJ18_init_25 : decode cJ18_init 25 = .ok (.aload_n 0, 1) := dk_42 (dk_at dksJ18_init_1 3 rfl rfl)
theorem dJ18_init_26 : decode cJ18_init 26 = .ok (.iload_n 1, 1) := dk_27 (dk_at dksJ18_init_1 4 rfl rfl)
theorem dJ18_init_27 : decode cJ18_init 27 = .ok (.invokestatic 26, 3) := dk_184 0 26 (dk_at dksJ18_init_1 5 rfl rfl)
theorem dJ18_init_30 : decode cJ18_init 30 = .ok (.putfield 15, 3) := dk_181 0 15 (dk_at dksJ18_init_1 8 rfl rfl)
theorem dJ18_init_33 : decode cJ18_init 33 = .ok (.aload_n 0, 1) := dk_42 (dk_at dksJ18_init_1 11 rfl rfl)
theorem dJ18_init_34 : decode cJ18_init 34 = .ok (.iconst 1, 1) := dk_4 (dk_at dksJ18_init_1 12 rfl rfl)
theorem dJ18_init_35 : decode cJ18_init 35 = .ok (.putfield 22, 3) := dk_181 0 22 (dk_at dksJ18_init_1 13 rfl rfl)
theorem dJ18_init_38 : decode cJ18_init 38 = .ok (.return_, 1) := dk_177 (dk_at dksJ18_init_1 16 rfl rfl)
abbrev cJ18_append : ByteArray := prog_67_method_31_code
def yJ18_append : MethodName := ⟨RJ18, "append", "(C)Ljava/lang/AbstractStringBuilder;"⟩
def dkwJ18_append_3 : List UInt8 := [181, 0, 79, 27, 184, 0, 197, 42, 176]
abbrev dktJ18_append_3 : List UInt8 := dkwJ18_append_3 ++ []
def dkwJ18_append_2 : List UInt8 := [182, 0, 83, 153, 0, 7, 42, 182, 0, 195, 42, 180, 0, 15, 42, 89, 180, 0, 79, 90, 4, 96]
abbrev dktJ18_append_2 : List UInt8 := dkwJ18_append_2 ++ dktJ18_append_3
def dkwJ18_append_1 : List UInt8 := [42, 180, 0, 15, 42, 89, 180, 0, 79, 90, 4, 96, 181, 0, 79, 27, 145, 84, 167, 0, 33, 42]
abbrev dktJ18_append_1 : List UInt8 := dkwJ18_append_1 ++ dktJ18_append_2
def dkwJ18_append_0 : List UInt8 := [42, 42, 180, 0, 79, 4, 96, 182, 0, 100, 42, 182, 0, 83, 153, 0, 31, 27, 184, 0, 191, 153, 0, 24]
abbrev dktJ18_append_0 : List UInt8 := dkwJ18_append_0 ++ dktJ18_append_1
theorem dksJ18_append_0 : cJ18_append.data.toList.drop 0 = dktJ18_append_0 := by decide +kernel
theorem dksJ18_append_1 : cJ18_append.data.toList.drop 24 = dktJ18_append_1 := dk_seg dksJ18_append_0 24 rfl rfl
theorem dksJ18_append_2 : cJ18_append.data.toList.drop 46 = dktJ18_append_2 := dk_seg dksJ18_append_1 22 rfl rfl
theorem dksJ18_append_3 : cJ18_append.data.toList.drop 68 = dktJ18_append_3 := dk_seg dksJ18_append_2 22 rfl rfl
theorem dJ18_append_0 : decode cJ18_append 0 = .ok (.aload_n 0, 1) := dk_42 (dk_at dksJ18_append_0 0 rfl rfl)
theorem dJ18_append_1 : decode cJ18_append 1 = .ok (.aload_n 0, 1) := dk_42 (dk_at dksJ18_append_0 1 rfl rfl)
theorem dJ18_append_2 : decode cJ18_append 2 = .ok (.getfield 79, 3) := dk_180 0 79 (dk_at dksJ18_append_0 2 rfl rfl)
theorem dJ18_append_5 : decode cJ18_append 5 = .ok (.iconst 1, 1) := dk_4 (dk_at dksJ18_append_0 5 rfl rfl)
theorem dJ18_append_6 : decode cJ18_append 6 = .ok (.iadd, 1) := dk_96 (dk_at dksJ18_append_0 6 rfl rfl)
theorem dJ18_append_7 : decode cJ18_append 7 = .ok (.invokevirtual 100, 3) := dk_182 0 100 (dk_at dksJ18_append_0 7 rfl rfl)
theorem dJ18_append_10 : decode cJ18_append 10 = .ok (.aload_n 0, 1) := dk_42 (dk_at dksJ18_append_0 10 rfl rfl)
theorem dJ18_append_11 : decode cJ18_append 11 = .ok (.invokevirtual 83, 3) := dk_182 0 83 (dk_at dksJ18_append_0 11 rfl rfl)
theorem dJ18_append_14 : decode cJ18_append 14 = .ok (.ifCond .eq 31, 3) := dk_153 0 31 (dk_at dksJ18_append_0 14 rfl rfl)
theorem dJ18_append_17 : decode cJ18_append 17 = .ok (.iload_n 1, 1) := dk_27 (dk_at dksJ18_append_0 17 rfl rfl)
theorem dJ18_append_18 : decode cJ18_append 18 = .ok (.invokestatic 191, 3) := dk_184 0 191 (dk_at dksJ18_append_0 18 rfl rfl)
theorem dJ18_append_21 : decode cJ18_append 21 = .ok (.ifCond .eq 24, 3) := dk_153 0 24 (dk_at dksJ18_append_0 21 rfl rfl)
theorem dJ18_append_24 : decode cJ18_append 24 = .ok (.aload_n 0, 1) := dk_42 (dk_at dksJ18_append_1 0 rfl rfl)
theorem dJ18_append_25 : decode cJ18_append 25 = .ok (.getfield 15, 3) := dk_180 0 15 (dk_at dksJ18_append_1 1 rfl rfl)
theorem dJ18_append_28 : decode cJ18_append 28 = .ok (.aload_n 0, 1) := dk_42 (dk_at dksJ18_append_1 4 rfl rfl)
theorem dJ18_append_29 : decode cJ18_append 29 = .ok (.dup, 1) := dk_89 (dk_at dksJ18_append_1 5 rfl rfl)
theorem dJ18_append_30 : decode cJ18_append 30 = .ok (.getfield 79, 3) := dk_180 0 79 (dk_at dksJ18_append_1 6 rfl rfl)
theorem dJ18_append_33 : decode cJ18_append 33 = .ok (.dup_x1, 1) := dk_90 (dk_at dksJ18_append_1 9 rfl rfl)
theorem dJ18_append_34 : decode cJ18_append 34 = .ok (.iconst 1, 1) := dk_4 (dk_at dksJ18_append_1 10 rfl rfl)
theorem dJ18_append_35 : decode cJ18_append 35 = .ok (.iadd, 1) := dk_96 (dk_at dksJ18_append_1 11 rfl rfl)
theorem dJ18_append_36 : decode cJ18_append 36 = .ok (.putfield 79, 3) := dk_181 0 79 (dk_at dksJ18_append_1 12 rfl rfl)
theorem dJ18_append_39 : decode cJ18_append 39 = .ok (.iload_n 1, 1) := dk_27 (dk_at dksJ18_append_1 15 rfl rfl)
theorem dJ18_append_40 : decode cJ18_append 40 = .ok (.i2b, 1) := dk_145 (dk_at dksJ18_append_1 16 rfl rfl)
theorem dJ18_append_41 : decode cJ18_append 41 = .ok (.bastore, 1) := dk_84 (dk_at dksJ18_append_1 17 rfl rfl)
theorem dJ18_append_42 : decode cJ18_append 42 = .ok (.goto 33, 3) := dk_167 0 33 (dk_at dksJ18_append_1 18 rfl rfl)
theorem dJ18_append_45 : decode cJ18_append 45 = .ok (.aload_n 0, 1) := dk_42 (dk_at dksJ18_append_1 21 rfl rfl)
theorem dJ18_append_46 : decode cJ18_append 46 = .ok (.invokevirtual 83, 3) := dk_182 0 83 (dk_at dksJ18_append_2 0 rfl rfl)
theorem dJ18_append_49 : decode cJ18_append 49 = .ok (.ifCond .eq 7, 3) := dk_153 0 7 (dk_at dksJ18_append_2 3 rfl rfl)
theorem dJ18_append_52 : decode cJ18_append 52 = .ok (.aload_n 0, 1) := dk_42 (dk_at dksJ18_append_2 6 rfl rfl)
theorem dJ18_append_53 : decode cJ18_append 53 = .ok (.invokevirtual 195, 3) := dk_182 0 195 (dk_at dksJ18_append_2 7 rfl rfl)
theorem dJ18_append_56 : decode cJ18_append 56 = .ok (.aload_n 0, 1) := dk_42 (dk_at dksJ18_append_2 10 rfl rfl)
theorem dJ18_append_57 : decode cJ18_append 57 = .ok (.getfield 15, 3) := dk_180 0 15 (dk_at dksJ18_append_2 11 rfl rfl)
theorem dJ18_append_60 : decode cJ18_append 60 = .ok (.aload_n 0, 1) := dk_42 (dk_at dksJ18_append_2 14 rfl rfl)
theorem dJ18_append_61 : decode cJ18_append 61 = .ok (.dup, 1) := dk_89 (dk_at dksJ18_append_2 15 rfl rfl)
theorem dJ18_append_62 : decode cJ18_append 62 = .ok (.getfield 79, 3) := dk_180 0 79 (dk_at dksJ18_append_2 16 rfl rfl)
theorem dJ18_append_65 : decode cJ18_append 65 = .ok (.dup_x1, 1) := dk_90 (dk_at dksJ18_append_2 19 rfl rfl)
theorem dJ18_append_66 : decode cJ18_append 66 = .ok (.iconst 1, 1) := dk_4 (dk_at dksJ18_append_2 20 rfl rfl)
theorem dJ18_append_67 : decode cJ18_append 67 = .ok (.iadd, 1) := dk_96 (dk_at dksJ18_append_2 21 rfl rfl)
theorem dJ18_append_68 : decode cJ18_append 68 = .ok (.putfield 79, 3) := dk_181 0 79 (dk_at dksJ18_append_3 0 rfl rfl)
theorem dJ18_append_71 : decode cJ18_append 71 = .ok (.iload_n 1, 1) := dk_27 (dk_at dksJ18_append_3 3 rfl rfl)
theorem dJ18_append_72 : decode cJ18_append 72 = .ok (.invokestatic 197, 3) := dk_184 0 197 (dk_at dksJ18_append_3 4 rfl rfl)
theorem dJ18_append_75 : decode cJ18_append 75 = .ok (.aload_n 0, 1) := dk_42 (dk_at dksJ18_append_3 7 rfl rfl)
theorem dJ18_append_76 : decode cJ18_append 76 = .ok (.areturn, 1) := dk_176 (dk_at dksJ18_append_3 8 rfl rfl)
abbrev cJ18_ensureCapacityInternal : ByteArray := prog_67_method_9_code
def yJ18_ensureCapacityInternal : MethodName := ⟨RJ18, "ensureCapacityInternal", "(I)V"⟩
def dkwJ18_ensureCapacityInternal_1 : List UInt8 := [182, 0, 104, 42, 180, 0, 22, 120, 184, 0, 108, 181, 0, 15, 177]
abbrev dktJ18_ensureCapacityInternal_1 : List UInt8 := dkwJ18_ensureCapacityInternal_1 ++ []
def dkwJ18_ensureCapacityInternal_0 : List UInt8 := [42, 180, 0, 15, 190, 42, 180, 0, 22, 122, 61, 27, 28, 100, 158, 0, 24, 42, 42, 180, 0, 15, 42, 27]
abbrev dktJ18_ensureCapacityInternal_0 : List UInt8 := dkwJ18_ensureCapacityInternal_0 ++ dktJ18_ensureCapacityInternal_1
theorem dksJ18_ensureCapacityInternal_0 : cJ18_ensureCapacityInternal.data.toList.drop 0 = dktJ18_ensureCapacityInternal_0 := by decide +kernel
theorem dksJ18_ensureCapacityInternal_1 : cJ18_ensureCapacityInternal.data.toList.drop 24 = dktJ18_ensureCapacityInternal_1 := dk_seg dksJ18_ensureCapacityInternal_0 24 rfl rfl
theorem dJ18_ensureCapacityInternal_0 : decode cJ18_ensureCapacityInternal 0 = .ok (.aload_n 0, 1) := dk_42 (dk_at dksJ18_ensureCapacityInternal_0 0 rfl rfl)
theorem dJ18_ensureCapacityInternal_1 : decode cJ18_ensureCapacityInternal 1 = .ok (.getfield 15, 3) := dk_180 0 15 (dk_at dksJ18_ensureCapacityInternal_0 1 rfl rfl)
theorem dJ18_ensureCapacityInternal_4 : decode cJ18_ensureCapacityInternal 4 = .ok (.arraylength, 1) := dk_190 (dk_at dksJ18_ensureCapacityInternal_0 4 rfl rfl)
theorem dJ18_ensureCapacityInternal_5 : decode cJ18_ensureCapacityInternal 5 = .ok (.aload_n 0, 1) := dk_42 (dk_at dksJ18_ensureCapacityInternal_0 5 rfl rfl)
theorem dJ18_ensureCapacityInternal_6 : decode cJ18_ensureCapacityInternal 6 = .ok (.getfield 22, 3) := dk_180 0 22 (dk_at dksJ18_ensureCapacityInternal_0 6 rfl rfl)
theorem dJ18_ensureCapacityInternal_9 : decode cJ18_ensureCapacityInternal 9 = .ok (.ishr, 1) := dk_122 (dk_at dksJ18_ensureCapacityInternal_0 9 rfl rfl)
theorem dJ18_ensureCapacityInternal_10 : decode cJ18_ensureCapacityInternal 10 = .ok (.istore_n 2, 1) := dk_61 (dk_at dksJ18_ensureCapacityInternal_0 10 rfl rfl)
theorem dJ18_ensureCapacityInternal_11 : decode cJ18_ensureCapacityInternal 11 = .ok (.iload_n 1, 1) := dk_27 (dk_at dksJ18_ensureCapacityInternal_0 11 rfl rfl)
theorem dJ18_ensureCapacityInternal_12 : decode cJ18_ensureCapacityInternal 12 = .ok (.iload_n 2, 1) := dk_28 (dk_at dksJ18_ensureCapacityInternal_0 12 rfl rfl)
theorem dJ18_ensureCapacityInternal_13 : decode cJ18_ensureCapacityInternal 13 = .ok (.isub, 1) := dk_100 (dk_at dksJ18_ensureCapacityInternal_0 13 rfl rfl)
theorem dJ18_ensureCapacityInternal_14 : decode cJ18_ensureCapacityInternal 14 = .ok (.ifCond .le 24, 3) := dk_158 0 24 (dk_at dksJ18_ensureCapacityInternal_0 14 rfl rfl)
theorem dJ18_ensureCapacityInternal_17 : decode cJ18_ensureCapacityInternal 17 = .ok (.aload_n 0, 1) := dk_42 (dk_at dksJ18_ensureCapacityInternal_0 17 rfl rfl)
theorem dJ18_ensureCapacityInternal_18 : decode cJ18_ensureCapacityInternal 18 = .ok (.aload_n 0, 1) := dk_42 (dk_at dksJ18_ensureCapacityInternal_0 18 rfl rfl)
theorem dJ18_ensureCapacityInternal_19 : decode cJ18_ensureCapacityInternal 19 = .ok (.getfield 15, 3) := dk_180 0 15 (dk_at dksJ18_ensureCapacityInternal_0 19 rfl rfl)
theorem dJ18_ensureCapacityInternal_22 : decode cJ18_ensureCapacityInternal 22 = .ok (.aload_n 0, 1) := dk_42 (dk_at dksJ18_ensureCapacityInternal_0 22 rfl rfl)
theorem dJ18_ensureCapacityInternal_23 : decode cJ18_ensureCapacityInternal 23 = .ok (.iload_n 1, 1) := dk_27 (dk_at dksJ18_ensureCapacityInternal_0 23 rfl rfl)
theorem dJ18_ensureCapacityInternal_24 : decode cJ18_ensureCapacityInternal 24 = .ok (.invokevirtual 104, 3) := dk_182 0 104 (dk_at dksJ18_ensureCapacityInternal_1 0 rfl rfl)
theorem dJ18_ensureCapacityInternal_27 : decode cJ18_ensureCapacityInternal 27 = .ok (.aload_n 0, 1) := dk_42 (dk_at dksJ18_ensureCapacityInternal_1 3 rfl rfl)
theorem dJ18_ensureCapacityInternal_28 : decode cJ18_ensureCapacityInternal 28 = .ok (.getfield 22, 3) := dk_180 0 22 (dk_at dksJ18_ensureCapacityInternal_1 4 rfl rfl)
theorem dJ18_ensureCapacityInternal_31 : decode cJ18_ensureCapacityInternal 31 = .ok (.ishl, 1) := dk_120 (dk_at dksJ18_ensureCapacityInternal_1 7 rfl rfl)
theorem dJ18_ensureCapacityInternal_32 : decode cJ18_ensureCapacityInternal 32 = .ok (.invokestatic 108, 3) := dk_184 0 108 (dk_at dksJ18_ensureCapacityInternal_1 8 rfl rfl)
theorem dJ18_ensureCapacityInternal_35 : decode cJ18_ensureCapacityInternal 35 = .ok (.putfield 15, 3) := dk_181 0 15 (dk_at dksJ18_ensureCapacityInternal_1 11 rfl rfl)
theorem dJ18_ensureCapacityInternal_38 : decode cJ18_ensureCapacityInternal 38 = .ok (.return_, 1) := dk_177 (dk_at dksJ18_ensureCapacityInternal_1 14 rfl rfl)
abbrev cJ18_newCapacity : ByteArray := prog_67_method_10_code
def yJ18_newCapacity : MethodName := ⟨RJ18, "newCapacity", "(I)I"⟩
def dkwJ18_newCapacity_2 : List UInt8 := [183, 0, 124, 191, 21, 5, 42, 180, 0, 22, 122, 172]
abbrev dktJ18_newCapacity_2 : List UInt8 := dkwJ18_newCapacity_2 ++ []
def dkwJ18_newCapacity_1 : List UInt8 := [180, 0, 22, 120, 96, 184, 0, 114, 54, 5, 21, 5, 18, 39, 160, 0, 13, 187, 0, 120, 89, 18, 122]
abbrev dktJ18_newCapacity_1 : List UInt8 := dkwJ18_newCapacity_1 ++ dktJ18_newCapacity_2
def dkwJ18_newCapacity_0 : List UInt8 := [42, 180, 0, 15, 190, 61, 27, 42, 180, 0, 22, 120, 62, 29, 28, 100, 54, 4, 28, 21, 4, 28, 5, 42]
abbrev dktJ18_newCapacity_0 : List UInt8 := dkwJ18_newCapacity_0 ++ dktJ18_newCapacity_1
theorem dksJ18_newCapacity_0 : cJ18_newCapacity.data.toList.drop 0 = dktJ18_newCapacity_0 := by decide +kernel
theorem dksJ18_newCapacity_1 : cJ18_newCapacity.data.toList.drop 24 = dktJ18_newCapacity_1 := dk_seg dksJ18_newCapacity_0 24 rfl rfl
theorem dksJ18_newCapacity_2 : cJ18_newCapacity.data.toList.drop 47 = dktJ18_newCapacity_2 := dk_seg dksJ18_newCapacity_1 23 rfl rfl
theorem dJ18_newCapacity_0 : decode cJ18_newCapacity 0 = .ok (.aload_n 0, 1) := dk_42 (dk_at dksJ18_newCapacity_0 0 rfl rfl)
theorem dJ18_newCapacity_1 : decode cJ18_newCapacity 1 = .ok (.getfield 15, 3) := dk_180 0 15 (dk_at dksJ18_newCapacity_0 1 rfl rfl)
theorem dJ18_newCapacity_4 : decode cJ18_newCapacity 4 = .ok (.arraylength, 1) := dk_190 (dk_at dksJ18_newCapacity_0 4 rfl rfl)
theorem dJ18_newCapacity_5 : decode cJ18_newCapacity 5 = .ok (.istore_n 2, 1) := dk_61 (dk_at dksJ18_newCapacity_0 5 rfl rfl)
theorem dJ18_newCapacity_6 : decode cJ18_newCapacity 6 = .ok (.iload_n 1, 1) := dk_27 (dk_at dksJ18_newCapacity_0 6 rfl rfl)
theorem dJ18_newCapacity_7 : decode cJ18_newCapacity 7 = .ok (.aload_n 0, 1) := dk_42 (dk_at dksJ18_newCapacity_0 7 rfl rfl)
theorem dJ18_newCapacity_8 : decode cJ18_newCapacity 8 = .ok (.getfield 22, 3) := dk_180 0 22 (dk_at dksJ18_newCapacity_0 8 rfl rfl)
theorem dJ18_newCapacity_11 : decode cJ18_newCapacity 11 = .ok (.ishl, 1) := dk_120 (dk_at dksJ18_newCapacity_0 11 rfl rfl)
theorem dJ18_newCapacity_12 : decode cJ18_newCapacity 12 = .ok (.istore_n 3, 1) := dk_62 (dk_at dksJ18_newCapacity_0 12 rfl rfl)
theorem dJ18_newCapacity_13 : decode cJ18_newCapacity 13 = .ok (.iload_n 3, 1) := dk_29 (dk_at dksJ18_newCapacity_0 13 rfl rfl)
theorem dJ18_newCapacity_14 : decode cJ18_newCapacity 14 = .ok (.iload_n 2, 1) := dk_28 (dk_at dksJ18_newCapacity_0 14 rfl rfl)
theorem dJ18_newCapacity_15 : decode cJ18_newCapacity 15 = .ok (.isub, 1) := dk_100 (dk_at dksJ18_newCapacity_0 15 rfl rfl)
theorem dJ18_newCapacity_16 : decode cJ18_newCapacity 16 = .ok (.istore 4, 2) := dk_54 4 (dk_at dksJ18_newCapacity_0 16 rfl rfl)
theorem dJ18_newCapacity_18 : decode cJ18_newCapacity 18 = .ok (.iload_n 2, 1) := dk_28 (dk_at dksJ18_newCapacity_0 18 rfl rfl)
theorem dJ18_newCapacity_19 : decode cJ18_newCapacity 19 = .ok (.iload 4, 2) := dk_21 4 (dk_at dksJ18_newCapacity_0 19 rfl rfl)
theorem dJ18_newCapacity_21 : decode cJ18_newCapacity 21 = .ok (.iload_n 2, 1) := dk_28 (dk_at dksJ18_newCapacity_0 21 rfl rfl)
theorem dJ18_newCapacity_22 : decode cJ18_newCapacity 22 = .ok (.iconst 2, 1) := dk_5 (dk_at dksJ18_newCapacity_0 22 rfl rfl)
theorem dJ18_newCapacity_23 : decode cJ18_newCapacity 23 = .ok (.aload_n 0, 1) := dk_42 (dk_at dksJ18_newCapacity_0 23 rfl rfl)
theorem dJ18_newCapacity_24 : decode cJ18_newCapacity 24 = .ok (.getfield 22, 3) := dk_180 0 22 (dk_at dksJ18_newCapacity_1 0 rfl rfl)
theorem dJ18_newCapacity_27 : decode cJ18_newCapacity 27 = .ok (.ishl, 1) := dk_120 (dk_at dksJ18_newCapacity_1 3 rfl rfl)
theorem dJ18_newCapacity_28 : decode cJ18_newCapacity 28 = .ok (.iadd, 1) := dk_96 (dk_at dksJ18_newCapacity_1 4 rfl rfl)
theorem dJ18_newCapacity_29 : decode cJ18_newCapacity 29 = .ok (.invokestatic 114, 3) := dk_184 0 114 (dk_at dksJ18_newCapacity_1 5 rfl rfl)
theorem dJ18_newCapacity_32 : decode cJ18_newCapacity 32 = .ok (.istore 5, 2) := dk_54 5 (dk_at dksJ18_newCapacity_1 8 rfl rfl)
theorem dJ18_newCapacity_34 : decode cJ18_newCapacity 34 = .ok (.iload 5, 2) := dk_21 5 (dk_at dksJ18_newCapacity_1 10 rfl rfl)
theorem dJ18_newCapacity_36 : decode cJ18_newCapacity 36 = .ok (.ldc 39, 2) := dk_18 39 (dk_at dksJ18_newCapacity_1 12 rfl rfl)
theorem dJ18_newCapacity_38 : decode cJ18_newCapacity 38 = .ok (.if_icmp .ne 13, 3) := dk_160 0 13 (dk_at dksJ18_newCapacity_1 14 rfl rfl)
theorem dJ18_newCapacity_41 : decode cJ18_newCapacity 41 = .ok (.new 120, 3) := dk_187 0 120 (dk_at dksJ18_newCapacity_1 17 rfl rfl)
theorem dJ18_newCapacity_44 : decode cJ18_newCapacity 44 = .ok (.dup, 1) := dk_89 (dk_at dksJ18_newCapacity_1 20 rfl rfl)
theorem dJ18_newCapacity_45 : decode cJ18_newCapacity 45 = .ok (.ldc 122, 2) := dk_18 122 (dk_at dksJ18_newCapacity_1 21 rfl rfl)
theorem dJ18_newCapacity_47 : decode cJ18_newCapacity 47 = .ok (.invokespecial 124, 3) := dk_183 0 124 (dk_at dksJ18_newCapacity_2 0 rfl rfl)
theorem dJ18_newCapacity_50 : decode cJ18_newCapacity 50 = .ok (.athrow, 1) := dk_191 (dk_at dksJ18_newCapacity_2 3 rfl rfl)
theorem dJ18_newCapacity_51 : decode cJ18_newCapacity 51 = .ok (.iload 5, 2) := dk_21 5 (dk_at dksJ18_newCapacity_2 4 rfl rfl)
theorem dJ18_newCapacity_53 : decode cJ18_newCapacity 53 = .ok (.aload_n 0, 1) := dk_42 (dk_at dksJ18_newCapacity_2 6 rfl rfl)
theorem dJ18_newCapacity_54 : decode cJ18_newCapacity 54 = .ok (.getfield 22, 3) := dk_180 0 22 (dk_at dksJ18_newCapacity_2 7 rfl rfl)
theorem dJ18_newCapacity_57 : decode cJ18_newCapacity 57 = .ok (.ishr, 1) := dk_122 (dk_at dksJ18_newCapacity_2 10 rfl rfl)
theorem dJ18_newCapacity_58 : decode cJ18_newCapacity 58 = .ok (.ireturn, 1) := dk_172 (dk_at dksJ18_newCapacity_2 11 rfl rfl)
abbrev cJ18_isLatin1 : ByteArray := prog_67_method_68_code
def yJ18_isLatin1 : MethodName := ⟨RJ18, "isLatin1", "()Z"⟩
def dkwJ18_isLatin1_0 : List UInt8 := [178, 0, 18, 153, 0, 14, 42, 180, 0, 22, 154, 0, 7, 4, 167, 0, 4, 3, 172]
abbrev dktJ18_isLatin1_0 : List UInt8 := dkwJ18_isLatin1_0 ++ []
theorem dksJ18_isLatin1_0 : cJ18_isLatin1.data.toList.drop 0 = dktJ18_isLatin1_0 := by decide +kernel
theorem dJ18_isLatin1_0 : decode cJ18_isLatin1 0 = .ok (.getstatic 18, 3) := dk_178 0 18 (dk_at dksJ18_isLatin1_0 0 rfl rfl)
theorem dJ18_isLatin1_3 : decode cJ18_isLatin1 3 = .ok (.ifCond .eq 14, 3) := dk_153 0 14 (dk_at dksJ18_isLatin1_0 3 rfl rfl)
theorem dJ18_isLatin1_6 : decode cJ18_isLatin1 6 = .ok (.aload_n 0, 1) := dk_42 (dk_at dksJ18_isLatin1_0 6 rfl rfl)
theorem dJ18_isLatin1_7 : decode cJ18_isLatin1 7 = .ok (.getfield 22, 3) := dk_180 0 22 (dk_at dksJ18_isLatin1_0 7 rfl rfl)
theorem dJ18_isLatin1_10 : decode cJ18_isLatin1 10 = .ok (.ifCond .ne 7, 3) := dk_154 0 7 (dk_at dksJ18_isLatin1_0 10 rfl rfl)
theorem dJ18_isLatin1_13 : decode cJ18_isLatin1 13 = .ok (.iconst 1, 1) := dk_4 (dk_at dksJ18_isLatin1_0 13 rfl rfl)
theorem dJ18_isLatin1_14 : decode cJ18_isLatin1 14 = .ok (.goto 4, 3) := dk_167 0 4 (dk_at dksJ18_isLatin1_0 14 rfl rfl)
theorem dJ18_isLatin1_17 : decode cJ18_isLatin1 17 = .ok (.iconst 0, 1) := dk_3 (dk_at dksJ18_isLatin1_0 17 rfl rfl)
theorem dJ18_isLatin1_18 : decode cJ18_isLatin1 18 = .ok (.ireturn, 1) := dk_172 (dk_at dksJ18_isLatin1_0 18 rfl rfl)
abbrev cJ18_inflate : ByteArray := prog_67_method_11_code
def yJ18_inflate : MethodName := ⟨RJ18, "inflate", "()V"⟩
def dkwJ18_inflate_1 : List UInt8 := [42, 180, 0, 79, 184, 0, 125, 42, 43, 181, 0, 15, 42, 4, 181, 0, 22, 177]
abbrev dktJ18_inflate_1 : List UInt8 := dkwJ18_inflate_1 ++ []
def dkwJ18_inflate_0 : List UInt8 := [42, 182, 0, 83, 154, 0, 4, 177, 42, 180, 0, 15, 190, 184, 0, 26, 76, 42, 180, 0, 15, 3, 43, 3]
abbrev dktJ18_inflate_0 : List UInt8 := dkwJ18_inflate_0 ++ dktJ18_inflate_1
theorem dksJ18_inflate_0 : cJ18_inflate.data.toList.drop 0 = dktJ18_inflate_0 := by decide +kernel
theorem dksJ18_inflate_1 : cJ18_inflate.data.toList.drop 24 = dktJ18_inflate_1 := dk_seg dksJ18_inflate_0 24 rfl rfl
theorem dJ18_inflate_0 : decode cJ18_inflate 0 = .ok (.aload_n 0, 1) := dk_42 (dk_at dksJ18_inflate_0 0 rfl rfl)
theorem dJ18_inflate_1 : decode cJ18_inflate 1 = .ok (.invokevirtual 83, 3) := dk_182 0 83 (dk_at dksJ18_inflate_0 1 rfl rfl)
theorem dJ18_inflate_4 : decode cJ18_inflate 4 = .ok (.ifCond .ne 4, 3) := dk_154 0 4 (dk_at dksJ18_inflate_0 4 rfl rfl)
theorem dJ18_inflate_7 : decode cJ18_inflate 7 = .ok (.return_, 1) := dk_177 (dk_at dksJ18_inflate_0 7 rfl rfl)
theorem dJ18_inflate_8 : decode cJ18_inflate 8 = .ok (.aload_n 0, 1) := dk_42 (dk_at dksJ18_inflate_0 8 rfl rfl)
theorem dJ18_inflate_9 : decode cJ18_inflate 9 = .ok (.getfield 15, 3) := dk_180 0 15 (dk_at dksJ18_inflate_0 9 rfl rfl)
theorem dJ18_inflate_12 : decode cJ18_inflate 12 = .ok (.arraylength, 1) := dk_190 (dk_at dksJ18_inflate_0 12 rfl rfl)
theorem dJ18_inflate_13 : decode cJ18_inflate 13 = .ok (.invokestatic 26, 3) := dk_184 0 26 (dk_at dksJ18_inflate_0 13 rfl rfl)
theorem dJ18_inflate_16 : decode cJ18_inflate 16 = .ok (.astore_n 1, 1) := dk_76 (dk_at dksJ18_inflate_0 16 rfl rfl)
theorem dJ18_inflate_17 : decode cJ18_inflate 17 = .ok (.aload_n 0, 1) := dk_42 (dk_at dksJ18_inflate_0 17 rfl rfl)
theorem dJ18_inflate_18 : decode cJ18_inflate 18 = .ok (.getfield 15, 3) := dk_180 0 15 (dk_at dksJ18_inflate_0 18 rfl rfl)
theorem dJ18_inflate_21 : decode cJ18_inflate 21 = .ok (.iconst 0, 1) := dk_3 (dk_at dksJ18_inflate_0 21 rfl rfl)
theorem dJ18_inflate_22 : decode cJ18_inflate 22 = .ok (.aload_n 1, 1) := dk_43 (dk_at dksJ18_inflate_0 22 rfl rfl)
theorem dJ18_inflate_23 : decode cJ18_inflate 23 = .ok (.iconst 0, 1) := dk_3 (dk_at dksJ18_inflate_0 23 rfl rfl)
theorem dJ18_inflate_24 : decode cJ18_inflate 24 = .ok (.aload_n 0, 1) := dk_42 (dk_at dksJ18_inflate_1 0 rfl rfl)
theorem dJ18_inflate_25 : decode cJ18_inflate 25 = .ok (.getfield 79, 3) := dk_180 0 79 (dk_at dksJ18_inflate_1 1 rfl rfl)
theorem dJ18_inflate_28 : decode cJ18_inflate 28 = .ok (.invokestatic 125, 3) := dk_184 0 125 (dk_at dksJ18_inflate_1 4 rfl rfl)
theorem dJ18_inflate_31 : decode cJ18_inflate 31 = .ok (.aload_n 0, 1) := dk_42 (dk_at dksJ18_inflate_1 7 rfl rfl)
theorem dJ18_inflate_32 : decode cJ18_inflate 32 = .ok (.aload_n 1, 1) := dk_43 (dk_at dksJ18_inflate_1 8 rfl rfl)
theorem dJ18_inflate_33 : decode cJ18_inflate 33 = .ok (.putfield 15, 3) := dk_181 0 15 (dk_at dksJ18_inflate_1 9 rfl rfl)
theorem dJ18_inflate_36 : decode cJ18_inflate 36 = .ok (.aload_n 0, 1) := dk_42 (dk_at dksJ18_inflate_1 12 rfl rfl)
theorem dJ18_inflate_37 : decode cJ18_inflate 37 = .ok (.iconst 1, 1) := dk_4 (dk_at dksJ18_inflate_1 13 rfl rfl)
theorem dJ18_inflate_38 : decode cJ18_inflate 38 = .ok (.putfield 22, 3) := dk_181 0 22 (dk_at dksJ18_inflate_1 14 rfl rfl)
theorem dJ18_inflate_41 : decode cJ18_inflate 41 = .ok (.return_, 1) := dk_177 (dk_at dksJ18_inflate_1 17 rfl rfl)
abbrev cJ18_getValue : ByteArray := prog_67_method_64_code
def yJ18_getValue : MethodName := ⟨RJ18, "getValue", "()[B"⟩
theorem dJ18_getValue_0 : decode cJ18_getValue 0 = .ok (.aload_n 0, 1) := by decide +kernel
theorem dJ18_getValue_1 : decode cJ18_getValue 1 = .ok (.getfield 15, 3) := by decide +kernel
theorem dJ18_getValue_4 : decode cJ18_getValue 4 = .ok (.areturn, 1) := by decide +kernel
abbrev cJ18_length : ByteArray := prog_67_method_6_code
def yJ18_length : MethodName := ⟨RJ18, "length", "()I"⟩
theorem dJ18_length_0 : decode cJ18_length 0 = .ok (.aload_n 0, 1) := by decide +kernel
theorem dJ18_length_1 : decode cJ18_length 1 = .ok (.getfield 79, 3) := by decide +kernel
theorem dJ18_length_4 : decode cJ18_length 4 = .ok (.ireturn, 1) := by decide +kernel
abbrev cJ18_append_2 : ByteArray := prog_67_method_32_code
def yJ18_append_2 : MethodName := ⟨RJ18, "append", "(I)Ljava/lang/AbstractStringBuilder;"⟩
def dkwJ18_append_2_2 : List UInt8 := [42, 29, 181, 0, 79, 42, 176]
abbrev dktJ18_append_2_2 : List UInt8 := dkwJ18_append_2_2 ++ []
def dkwJ18_append_2_1 : List UInt8 := [27, 29, 42, 180, 0, 15, 184, 0, 248, 87, 167, 0, 14, 27, 28, 29, 42, 180, 0, 15, 184, 0, 251, 87]
abbrev dktJ18_append_2_1 : List UInt8 := dkwJ18_append_2_1 ++ dktJ18_append_2_2
def dkwJ18_append_2_0 : List UInt8 := [42, 180, 0, 79, 61, 28, 27, 184, 0, 245, 96, 62, 42, 29, 182, 0, 100, 42, 182, 0, 83, 153, 0, 16]
abbrev dktJ18_append_2_0 : List UInt8 := dkwJ18_append_2_0 ++ dktJ18_append_2_1
theorem dksJ18_append_2_0 : cJ18_append_2.data.toList.drop 0 = dktJ18_append_2_0 := by decide +kernel
theorem dksJ18_append_2_1 : cJ18_append_2.data.toList.drop 24 = dktJ18_append_2_1 := dk_seg dksJ18_append_2_0 24 rfl rfl
theorem dksJ18_append_2_2 : cJ18_append_2.data.toList.drop 48 = dktJ18_append_2_2 := dk_seg dksJ18_append_2_1 24 rfl rfl
theorem dJ18_append_2_0 : decode cJ18_append_2 0 = .ok (.aload_n 0, 1) := dk_42 (dk_at dksJ18_append_2_0 0 rfl rfl)
theorem dJ18_append_2_1 : decode cJ18_append_2 1 = .ok (.getfield 79, 3) := dk_180 0 79 (dk_at dksJ18_append_2_0 1 rfl rfl)
theorem dJ18_append_2_4 : decode cJ18_append_2 4 = .ok (.istore_n 2, 1) := dk_61 (dk_at dksJ18_append_2_0 4 rfl rfl)
theorem dJ18_append_2_5 : decode cJ18_append_2 5 = .ok (.iload_n 2, 1) := dk_28 (dk_at dksJ18_append_2_0 5 rfl rfl)
theorem dJ18_append_2_6 : decode cJ18_append_2 6 = .ok (.iload_n 1, 1) := dk_27 (dk_at dksJ18_append_2_0 6 rfl rfl)
theorem dJ18_append_2_7 : decode cJ18_append_2 7 = .ok (.invokestatic 245, 3) := dk_184 0 245 (dk_at dksJ18_append_2_0 7 rfl rfl)
theorem dJ18_append_2_10 : decode cJ18_append_2 10 = .ok (.iadd, 1) := dk_96 (dk_at dksJ18_append_2_0 10 rfl rfl)
theorem dJ18_append_2_11 : decode cJ18_append_2 11 = .ok (.istore_n 3, 1) := dk_62 (dk_at dksJ18_append_2_0 11 rfl rfl)
theorem dJ18_append_2_12 : decode cJ18_append_2 12 = .ok (.aload_n 0, 1) := dk_42 (dk_at dksJ18_append_2_0 12 rfl rfl)
theorem dJ18_append_2_13 : decode cJ18_append_2 13 = .ok (.iload_n 3, 1) := dk_29 (dk_at dksJ18_append_2_0 13 rfl rfl)
theorem dJ18_append_2_14 : decode cJ18_append_2 14 = .ok (.invokevirtual 100, 3) := dk_182 0 100 (dk_at dksJ18_append_2_0 14 rfl rfl)
theorem dJ18_append_2_17 : decode cJ18_append_2 17 = .ok (.aload_n 0, 1) := dk_42 (dk_at dksJ18_append_2_0 17 rfl rfl)
theorem dJ18_append_2_18 : decode cJ18_append_2 18 = .ok (.invokevirtual 83, 3) := dk_182 0 83 (dk_at dksJ18_append_2_0 18 rfl rfl)
theorem dJ18_append_2_21 : decode cJ18_append_2 21 = .ok (.ifCond .eq 16, 3) := dk_153 0 16 (dk_at dksJ18_append_2_0 21 rfl rfl)
theorem dJ18_append_2_24 : decode cJ18_append_2 24 = .ok (.iload_n 1, 1) := dk_27 (dk_at dksJ18_append_2_1 0 rfl rfl)
theorem dJ18_append_2_25 : decode cJ18_append_2 25 = .ok (.iload_n 3, 1) := dk_29 (dk_at dksJ18_append_2_1 1 rfl rfl)
theorem dJ18_append_2_26 : decode cJ18_append_2 26 = .ok (.aload_n 0, 1) := dk_42 (dk_at dksJ18_append_2_1 2 rfl rfl)
theorem dJ18_append_2_27 : decode cJ18_append_2 27 = .ok (.getfield 15, 3) := dk_180 0 15 (dk_at dksJ18_append_2_1 3 rfl rfl)
theorem dJ18_append_2_30 : decode cJ18_append_2 30 = .ok (.invokestatic 248, 3) := dk_184 0 248 (dk_at dksJ18_append_2_1 6 rfl rfl)
theorem dJ18_append_2_33 : decode cJ18_append_2 33 = .ok (.pop, 1) := dk_87 (dk_at dksJ18_append_2_1 9 rfl rfl)
theorem dJ18_append_2_34 : decode cJ18_append_2 34 = .ok (.goto 14, 3) := dk_167 0 14 (dk_at dksJ18_append_2_1 10 rfl rfl)
theorem dJ18_append_2_37 : decode cJ18_append_2 37 = .ok (.iload_n 1, 1) := dk_27 (dk_at dksJ18_append_2_1 13 rfl rfl)
theorem dJ18_append_2_38 : decode cJ18_append_2 38 = .ok (.iload_n 2, 1) := dk_28 (dk_at dksJ18_append_2_1 14 rfl rfl)
theorem dJ18_append_2_39 : decode cJ18_append_2 39 = .ok (.iload_n 3, 1) := dk_29 (dk_at dksJ18_append_2_1 15 rfl rfl)
theorem dJ18_append_2_40 : decode cJ18_append_2 40 = .ok (.aload_n 0, 1) := dk_42 (dk_at dksJ18_append_2_1 16 rfl rfl)
theorem dJ18_append_2_41 : decode cJ18_append_2 41 = .ok (.getfield 15, 3) := dk_180 0 15 (dk_at dksJ18_append_2_1 17 rfl rfl)
theorem dJ18_append_2_44 : decode cJ18_append_2 44 = .ok (.invokestatic 251, 3) := dk_184 0 251 (dk_at dksJ18_append_2_1 20 rfl rfl)
theorem dJ18_append_2_47 : decode cJ18_append_2 47 = .ok (.pop, 1) := dk_87 (dk_at dksJ18_append_2_1 23 rfl rfl)
theorem dJ18_append_2_48 : decode cJ18_append_2 48 = .ok (.aload_n 0, 1) := dk_42 (dk_at dksJ18_append_2_2 0 rfl rfl)
theorem dJ18_append_2_49 : decode cJ18_append_2 49 = .ok (.iload_n 3, 1) := dk_29 (dk_at dksJ18_append_2_2 1 rfl rfl)
theorem dJ18_append_2_50 : decode cJ18_append_2 50 = .ok (.putfield 79, 3) := dk_181 0 79 (dk_at dksJ18_append_2_2 2 rfl rfl)
theorem dJ18_append_2_53 : decode cJ18_append_2 53 = .ok (.aload_n 0, 1) := dk_42 (dk_at dksJ18_append_2_2 5 rfl rfl)
theorem dJ18_append_2_54 : decode cJ18_append_2 54 = .ok (.areturn, 1) := dk_176 (dk_at dksJ18_append_2_2 6 rfl rfl)
abbrev cJ18_append_3 : ByteArray := prog_67_method_22_code
def yJ18_append_3 : MethodName := ⟨RJ18, "append", "(Ljava/lang/String;)Ljava/lang/AbstractStringBuilder;"⟩
def dkwJ18_append_3_1 : List UInt8 := [42, 42, 180, 0, 79, 43, 182, 0, 208, 42, 89, 180, 0, 79, 28, 96, 181, 0, 79, 42, 176]
abbrev dktJ18_append_3_1 : List UInt8 := dkwJ18_append_3_1 ++ []
def dkwJ18_append_3_0 : List UInt8 := [43, 199, 0, 8, 42, 182, 0, 204, 176, 43, 182, 0, 32, 61, 42, 42, 180, 0, 79, 28, 96, 182, 0, 100]
abbrev dktJ18_append_3_0 : List UInt8 := dkwJ18_append_3_0 ++ dktJ18_append_3_1
theorem dksJ18_append_3_0 : cJ18_append_3.data.toList.drop 0 = dktJ18_append_3_0 := by decide +kernel
theorem dksJ18_append_3_1 : cJ18_append_3.data.toList.drop 24 = dktJ18_append_3_1 := dk_seg dksJ18_append_3_0 24 rfl rfl
theorem dJ18_append_3_0 : decode cJ18_append_3 0 = .ok (.aload_n 1, 1) := dk_43 (dk_at dksJ18_append_3_0 0 rfl rfl)
theorem dJ18_append_3_1 : decode cJ18_append_3 1 = .ok (.ifnonnull 8, 3) := dk_199 0 8 (dk_at dksJ18_append_3_0 1 rfl rfl)
theorem dJ18_append_3_4 : decode cJ18_append_3 4 = .ok (.aload_n 0, 1) := dk_42 (dk_at dksJ18_append_3_0 4 rfl rfl)
theorem dJ18_append_3_5 : decode cJ18_append_3 5 = .ok (.invokevirtual 204, 3) := dk_182 0 204 (dk_at dksJ18_append_3_0 5 rfl rfl)
theorem dJ18_append_3_8 : decode cJ18_append_3 8 = .ok (.areturn, 1) := dk_176 (dk_at dksJ18_append_3_0 8 rfl rfl)
theorem dJ18_append_3_9 : decode cJ18_append_3 9 = .ok (.aload_n 1, 1) := dk_43 (dk_at dksJ18_append_3_0 9 rfl rfl)
theorem dJ18_append_3_10 : decode cJ18_append_3 10 = .ok (.invokevirtual 32, 3) := dk_182 0 32 (dk_at dksJ18_append_3_0 10 rfl rfl)
theorem dJ18_append_3_13 : decode cJ18_append_3 13 = .ok (.istore_n 2, 1) := dk_61 (dk_at dksJ18_append_3_0 13 rfl rfl)
theorem dJ18_append_3_14 : decode cJ18_append_3 14 = .ok (.aload_n 0, 1) := dk_42 (dk_at dksJ18_append_3_0 14 rfl rfl)
theorem dJ18_append_3_15 : decode cJ18_append_3 15 = .ok (.aload_n 0, 1) := dk_42 (dk_at dksJ18_append_3_0 15 rfl rfl)
theorem dJ18_append_3_16 : decode cJ18_append_3 16 = .ok (.getfield 79, 3) := dk_180 0 79 (dk_at dksJ18_append_3_0 16 rfl rfl)
theorem dJ18_append_3_19 : decode cJ18_append_3 19 = .ok (.iload_n 2, 1) := dk_28 (dk_at dksJ18_append_3_0 19 rfl rfl)
theorem dJ18_append_3_20 : decode cJ18_append_3 20 = .ok (.iadd, 1) := dk_96 (dk_at dksJ18_append_3_0 20 rfl rfl)
theorem dJ18_append_3_21 : decode cJ18_append_3 21 = .ok (.invokevirtual 100, 3) := dk_182 0 100 (dk_at dksJ18_append_3_0 21 rfl rfl)
theorem dJ18_append_3_24 : decode cJ18_append_3 24 = .ok (.aload_n 0, 1) := dk_42 (dk_at dksJ18_append_3_1 0 rfl rfl)
theorem dJ18_append_3_25 : decode cJ18_append_3 25 = .ok (.aload_n 0, 1) := dk_42 (dk_at dksJ18_append_3_1 1 rfl rfl)
theorem dJ18_append_3_26 : decode cJ18_append_3 26 = .ok (.getfield 79, 3) := dk_180 0 79 (dk_at dksJ18_append_3_1 2 rfl rfl)
theorem dJ18_append_3_29 : decode cJ18_append_3 29 = .ok (.aload_n 1, 1) := dk_43 (dk_at dksJ18_append_3_1 5 rfl rfl)
theorem dJ18_append_3_30 : decode cJ18_append_3 30 = .ok (.invokevirtual 208, 3) := dk_182 0 208 (dk_at dksJ18_append_3_1 6 rfl rfl)
theorem dJ18_append_3_33 : decode cJ18_append_3 33 = .ok (.aload_n 0, 1) := dk_42 (dk_at dksJ18_append_3_1 9 rfl rfl)
theorem dJ18_append_3_34 : decode cJ18_append_3 34 = .ok (.dup, 1) := dk_89 (dk_at dksJ18_append_3_1 10 rfl rfl)
theorem dJ18_append_3_35 : decode cJ18_append_3 35 = .ok (.getfield 79, 3) := dk_180 0 79 (dk_at dksJ18_append_3_1 11 rfl rfl)
theorem dJ18_append_3_38 : decode cJ18_append_3 38 = .ok (.iload_n 2, 1) := dk_28 (dk_at dksJ18_append_3_1 14 rfl rfl)
theorem dJ18_append_3_39 : decode cJ18_append_3 39 = .ok (.iadd, 1) := dk_96 (dk_at dksJ18_append_3_1 15 rfl rfl)
theorem dJ18_append_3_40 : decode cJ18_append_3 40 = .ok (.putfield 79, 3) := dk_181 0 79 (dk_at dksJ18_append_3_1 16 rfl rfl)
theorem dJ18_append_3_43 : decode cJ18_append_3 43 = .ok (.aload_n 0, 1) := dk_42 (dk_at dksJ18_append_3_1 19 rfl rfl)
theorem dJ18_append_3_44 : decode cJ18_append_3 44 = .ok (.areturn, 1) := dk_176 (dk_at dksJ18_append_3_1 20 rfl rfl)
abbrev cJ18_appendNull : ByteArray := prog_67_method_26_code
def yJ18_appendNull : MethodName := ⟨RJ18, "appendNull", "()Ljava/lang/AbstractStringBuilder;"⟩
def dkwJ18_appendNull_3 : List UInt8 := [184, 0, 226, 60, 42, 27, 181, 0, 79, 42, 176]
abbrev dktJ18_appendNull_3 : List UInt8 := dkwJ18_appendNull_3 ++ []
def dkwJ18_appendNull_2 : List UInt8 := [16, 108, 84, 44, 27, 132, 1, 1, 16, 108, 84, 167, 0, 17, 44, 27, 16, 110, 16, 117, 16, 108, 16, 108]
abbrev dktJ18_appendNull_2 : List UInt8 := dkwJ18_appendNull_2 ++ dktJ18_appendNull_3
def dkwJ18_appendNull_1 : List UInt8 := [153, 0, 38, 44, 27, 132, 1, 1, 16, 110, 84, 44, 27, 132, 1, 1, 16, 117, 84, 44, 27, 132, 1, 1]
abbrev dktJ18_appendNull_1 : List UInt8 := dkwJ18_appendNull_1 ++ dktJ18_appendNull_2
def dkwJ18_appendNull_0 : List UInt8 := [42, 42, 180, 0, 79, 7, 96, 182, 0, 100, 42, 180, 0, 79, 60, 42, 180, 0, 15, 77, 42, 182, 0, 83]
abbrev dktJ18_appendNull_0 : List UInt8 := dkwJ18_appendNull_0 ++ dktJ18_appendNull_1
theorem dksJ18_appendNull_0 : cJ18_appendNull.data.toList.drop 0 = dktJ18_appendNull_0 := by decide +kernel
theorem dksJ18_appendNull_1 : cJ18_appendNull.data.toList.drop 24 = dktJ18_appendNull_1 := dk_seg dksJ18_appendNull_0 24 rfl rfl
theorem dksJ18_appendNull_2 : cJ18_appendNull.data.toList.drop 48 = dktJ18_appendNull_2 := dk_seg dksJ18_appendNull_1 24 rfl rfl
theorem dksJ18_appendNull_3 : cJ18_appendNull.data.toList.drop 72 = dktJ18_appendNull_3 := dk_seg dksJ18_appendNull_2 24 rfl rfl
theorem dJ18_appendNull_0 : decode cJ18_appendNull 0 = .ok (.aload_n 0, 1) := dk_42 (dk_at dksJ18_appendNull_0 0 rfl rfl)
theorem dJ18_appendNull_1 : decode cJ18_appendNull 1 = .ok (.aload_n 0, 1) := dk_42 (dk_at dksJ18_appendNull_0 1 rfl rfl)
theorem dJ18_appendNull_2 : decode cJ18_appendNull 2 = .ok (.getfield 79, 3) := dk_180 0 79 (dk_at dksJ18_appendNull_0 2 rfl rfl)
theorem dJ18_appendNull_5 : decode cJ18_appendNull 5 = .ok (.iconst 4, 1) := dk_7 (dk_at dksJ18_appendNull_0 5 rfl rfl)
theorem dJ18_appendNull_6 : decode cJ18_appendNull 6 = .ok (.iadd, 1) := dk_96 (dk_at dksJ18_appendNull_0 6 rfl rfl)
theorem dJ18_appendNull_7 : decode cJ18_appendNull 7 = .ok (.invokevirtual 100, 3) := dk_182 0 100 (dk_at dksJ18_appendNull_0 7 rfl rfl)
theorem dJ18_appendNull_10 : decode cJ18_appendNull 10 = .ok (.aload_n 0, 1) := dk_42 (dk_at dksJ18_appendNull_0 10 rfl rfl)
theorem dJ18_appendNull_11 : decode cJ18_appendNull 11 = .ok (.getfield 79, 3) := dk_180 0 79 (dk_at dksJ18_appendNull_0 11 rfl rfl)
theorem dJ18_appendNull_14 : decode cJ18_appendNull 14 = .ok (.istore_n 1, 1) := dk_60 (dk_at dksJ18_appendNull_0 14 rfl rfl)
theorem dJ18_appendNull_15 : decode cJ18_appendNull 15 = .ok (.aload_n 0, 1) := dk_42 (dk_at dksJ18_appendNull_0 15 rfl rfl)
theorem dJ18_appendNull_16 : decode cJ18_appendNull 16 = .ok (.getfield 15, 3) := dk_180 0 15 (dk_at dksJ18_appendNull_0 16 rfl rfl)
theorem dJ18_appendNull_19 : decode cJ18_appendNull 19 = .ok (.astore_n 2, 1) := dk_77 (dk_at dksJ18_appendNull_0 19 rfl rfl)
theorem dJ18_appendNull_20 : decode cJ18_appendNull 20 = .ok (.aload_n 0, 1) := dk_42 (dk_at dksJ18_appendNull_0 20 rfl rfl)
theorem dJ18_appendNull_21 : decode cJ18_appendNull 21 = .ok (.invokevirtual 83, 3) := dk_182 0 83 (dk_at dksJ18_appendNull_0 21 rfl rfl)
theorem dJ18_appendNull_24 : decode cJ18_appendNull 24 = .ok (.ifCond .eq 38, 3) := dk_153 0 38 (dk_at dksJ18_appendNull_1 0 rfl rfl)
theorem dJ18_appendNull_27 : decode cJ18_appendNull 27 = .ok (.aload_n 2, 1) := dk_44 (dk_at dksJ18_appendNull_1 3 rfl rfl)
theorem dJ18_appendNull_28 : decode cJ18_appendNull 28 = .ok (.iload_n 1, 1) := dk_27 (dk_at dksJ18_appendNull_1 4 rfl rfl)
theorem dJ18_appendNull_29 : decode cJ18_appendNull 29 = .ok (.iinc 1 1, 3) := dk_132 1 1 (dk_at dksJ18_appendNull_1 5 rfl rfl)
theorem dJ18_appendNull_32 : decode cJ18_appendNull 32 = .ok (.bipush 110, 2) := dk_16 110 (dk_at dksJ18_appendNull_1 8 rfl rfl)
theorem dJ18_appendNull_34 : decode cJ18_appendNull 34 = .ok (.bastore, 1) := dk_84 (dk_at dksJ18_appendNull_1 10 rfl rfl)
theorem dJ18_appendNull_35 : decode cJ18_appendNull 35 = .ok (.aload_n 2, 1) := dk_44 (dk_at dksJ18_appendNull_1 11 rfl rfl)
theorem dJ18_appendNull_36 : decode cJ18_appendNull 36 = .ok (.iload_n 1, 1) := dk_27 (dk_at dksJ18_appendNull_1 12 rfl rfl)
theorem dJ18_appendNull_37 : decode cJ18_appendNull 37 = .ok (.iinc 1 1, 3) := dk_132 1 1 (dk_at dksJ18_appendNull_1 13 rfl rfl)
theorem dJ18_appendNull_40 : decode cJ18_appendNull 40 = .ok (.bipush 117, 2) := dk_16 117 (dk_at dksJ18_appendNull_1 16 rfl rfl)
theorem dJ18_appendNull_42 : decode cJ18_appendNull 42 = .ok (.bastore, 1) := dk_84 (dk_at dksJ18_appendNull_1 18 rfl rfl)
theorem dJ18_appendNull_43 : decode cJ18_appendNull 43 = .ok (.aload_n 2, 1) := dk_44 (dk_at dksJ18_appendNull_1 19 rfl rfl)
theorem dJ18_appendNull_44 : decode cJ18_appendNull 44 = .ok (.iload_n 1, 1) := dk_27 (dk_at dksJ18_appendNull_1 20 rfl rfl)
theorem dJ18_appendNull_45 : decode cJ18_appendNull 45 = .ok (.iinc 1 1, 3) := dk_132 1 1 (dk_at dksJ18_appendNull_1 21 rfl rfl)
theorem dJ18_appendNull_48 : decode cJ18_appendNull 48 = .ok (.bipush 108, 2) := dk_16 108 (dk_at dksJ18_appendNull_2 0 rfl rfl)
theorem dJ18_appendNull_50 : decode cJ18_appendNull 50 = .ok (.bastore, 1) := dk_84 (dk_at dksJ18_appendNull_2 2 rfl rfl)
theorem dJ18_appendNull_51 : decode cJ18_appendNull 51 = .ok (.aload_n 2, 1) := dk_44 (dk_at dksJ18_appendNull_2 3 rfl rfl)
theorem dJ18_appendNull_52 : decode cJ18_appendNull 52 = .ok (.iload_n 1, 1) := dk_27 (dk_at dksJ18_appendNull_2 4 rfl rfl)
theorem dJ18_appendNull_53 : decode cJ18_appendNull 53 = .ok (.iinc 1 1, 3) := dk_132 1 1 (dk_at dksJ18_appendNull_2 5 rfl rfl)
theorem dJ18_appendNull_56 : decode cJ18_appendNull 56 = .ok (.bipush 108, 2) := dk_16 108 (dk_at dksJ18_appendNull_2 8 rfl rfl)
theorem dJ18_appendNull_58 : decode cJ18_appendNull 58 = .ok (.bastore, 1) := dk_84 (dk_at dksJ18_appendNull_2 10 rfl rfl)
theorem dJ18_appendNull_59 : decode cJ18_appendNull 59 = .ok (.goto 17, 3) := dk_167 0 17 (dk_at dksJ18_appendNull_2 11 rfl rfl)
theorem dJ18_appendNull_62 : decode cJ18_appendNull 62 = .ok (.aload_n 2, 1) := dk_44 (dk_at dksJ18_appendNull_2 14 rfl rfl)
theorem dJ18_appendNull_63 : decode cJ18_appendNull 63 = .ok (.iload_n 1, 1) := dk_27 (dk_at dksJ18_appendNull_2 15 rfl rfl)
theorem dJ18_appendNull_64 : decode cJ18_appendNull 64 = .ok (.bipush 110, 2) := dk_16 110 (dk_at dksJ18_appendNull_2 16 rfl rfl)
theorem dJ18_appendNull_66 : decode cJ18_appendNull 66 = .ok (.bipush 117, 2) := dk_16 117 (dk_at dksJ18_appendNull_2 18 rfl rfl)
theorem dJ18_appendNull_68 : decode cJ18_appendNull 68 = .ok (.bipush 108, 2) := dk_16 108 (dk_at dksJ18_appendNull_2 20 rfl rfl)
theorem dJ18_appendNull_70 : decode cJ18_appendNull 70 = .ok (.bipush 108, 2) := dk_16 108 (dk_at dksJ18_appendNull_2 22 rfl rfl)
theorem dJ18_appendNull_72 : decode cJ18_appendNull 72 = .ok (.invokestatic 226, 3) := dk_184 0 226 (dk_at dksJ18_appendNull_3 0 rfl rfl)
theorem dJ18_appendNull_75 : decode cJ18_appendNull 75 = .ok (.istore_n 1, 1) := dk_60 (dk_at dksJ18_appendNull_3 3 rfl rfl)
theorem dJ18_appendNull_76 : decode cJ18_appendNull 76 = .ok (.aload_n 0, 1) := dk_42 (dk_at dksJ18_appendNull_3 4 rfl rfl)
theorem dJ18_appendNull_77 : decode cJ18_appendNull 77 = .ok (.iload_n 1, 1) := dk_27 (dk_at dksJ18_appendNull_3 5 rfl rfl)
theorem dJ18_appendNull_78 : decode cJ18_appendNull 78 = .ok (.putfield 79, 3) := dk_181 0 79 (dk_at dksJ18_appendNull_3 6 rfl rfl)
theorem dJ18_appendNull_81 : decode cJ18_appendNull 81 = .ok (.aload_n 0, 1) := dk_42 (dk_at dksJ18_appendNull_3 9 rfl rfl)
theorem dJ18_appendNull_82 : decode cJ18_appendNull 82 = .ok (.areturn, 1) := dk_176 (dk_at dksJ18_appendNull_3 10 rfl rfl)
abbrev cJ18_putStringAt : ByteArray := prog_67_method_73_code
def yJ18_putStringAt : MethodName := ⟨RJ18, "putStringAt", "(ILjava/lang/String;)V"⟩
def dkwJ18_putStringAt_0 : List UInt8 := [42, 44, 182, 1, 141, 44, 42, 180, 0, 15, 27, 42, 180, 0, 22, 182, 1, 143, 177]
abbrev dktJ18_putStringAt_0 : List UInt8 := dkwJ18_putStringAt_0 ++ []
theorem dksJ18_putStringAt_0 : cJ18_putStringAt.data.toList.drop 0 = dktJ18_putStringAt_0 := by decide +kernel
theorem dJ18_putStringAt_0 : decode cJ18_putStringAt 0 = .ok (.aload_n 0, 1) := dk_42 (dk_at dksJ18_putStringAt_0 0 rfl rfl)
theorem dJ18_putStringAt_1 : decode cJ18_putStringAt 1 = .ok (.aload_n 2, 1) := dk_44 (dk_at dksJ18_putStringAt_0 1 rfl rfl)
theorem dJ18_putStringAt_2 : decode cJ18_putStringAt 2 = .ok (.invokevirtual 397, 3) := dk_182 1 141 (dk_at dksJ18_putStringAt_0 2 rfl rfl)
theorem dJ18_putStringAt_5 : decode cJ18_putStringAt 5 = .ok (.aload_n 2, 1) := dk_44 (dk_at dksJ18_putStringAt_0 5 rfl rfl)
theorem dJ18_putStringAt_6 : decode cJ18_putStringAt 6 = .ok (.aload_n 0, 1) := dk_42 (dk_at dksJ18_putStringAt_0 6 rfl rfl)
theorem dJ18_putStringAt_7 : decode cJ18_putStringAt 7 = .ok (.getfield 15, 3) := dk_180 0 15 (dk_at dksJ18_putStringAt_0 7 rfl rfl)
theorem dJ18_putStringAt_10 : decode cJ18_putStringAt 10 = .ok (.iload_n 1, 1) := dk_27 (dk_at dksJ18_putStringAt_0 10 rfl rfl)
theorem dJ18_putStringAt_11 : decode cJ18_putStringAt 11 = .ok (.aload_n 0, 1) := dk_42 (dk_at dksJ18_putStringAt_0 11 rfl rfl)
theorem dJ18_putStringAt_12 : decode cJ18_putStringAt 12 = .ok (.getfield 22, 3) := dk_180 0 22 (dk_at dksJ18_putStringAt_0 12 rfl rfl)
theorem dJ18_putStringAt_15 : decode cJ18_putStringAt 15 = .ok (.invokevirtual 399, 3) := dk_182 1 143 (dk_at dksJ18_putStringAt_0 15 rfl rfl)
theorem dJ18_putStringAt_18 : decode cJ18_putStringAt 18 = .ok (.return_, 1) := dk_177 (dk_at dksJ18_putStringAt_0 18 rfl rfl)
abbrev cJ18_inflateIfNeededFor : ByteArray := prog_67_method_71_code
def yJ18_inflateIfNeededFor : MethodName := ⟨RJ18, "inflateIfNeededFor", "(Ljava/lang/String;)V"⟩
def dkwJ18_inflateIfNeededFor_0 : List UInt8 := [178, 0, 18, 153, 0, 18, 42, 180, 0, 22, 43, 182, 0, 40, 159, 0, 7, 42, 182, 0, 195, 177]
abbrev dktJ18_inflateIfNeededFor_0 : List UInt8 := dkwJ18_inflateIfNeededFor_0 ++ []
theorem dksJ18_inflateIfNeededFor_0 : cJ18_inflateIfNeededFor.data.toList.drop 0 = dktJ18_inflateIfNeededFor_0 := by decide +kernel
theorem dJ18_inflateIfNeededFor_0 : decode cJ18_inflateIfNeededFor 0 = .ok (.getstatic 18, 3) := dk_178 0 18 (dk_at dksJ18_inflateIfNeededFor_0 0 rfl rfl)
theorem dJ18_inflateIfNeededFor_3 : decode cJ18_inflateIfNeededFor 3 = .ok (.ifCond .eq 18, 3) := dk_153 0 18 (dk_at dksJ18_inflateIfNeededFor_0 3 rfl rfl)
theorem dJ18_inflateIfNeededFor_6 : decode cJ18_inflateIfNeededFor 6 = .ok (.aload_n 0, 1) := dk_42 (dk_at dksJ18_inflateIfNeededFor_0 6 rfl rfl)
theorem dJ18_inflateIfNeededFor_7 : decode cJ18_inflateIfNeededFor 7 = .ok (.getfield 22, 3) := dk_180 0 22 (dk_at dksJ18_inflateIfNeededFor_0 7 rfl rfl)
theorem dJ18_inflateIfNeededFor_10 : decode cJ18_inflateIfNeededFor 10 = .ok (.aload_n 1, 1) := dk_43 (dk_at dksJ18_inflateIfNeededFor_0 10 rfl rfl)
theorem dJ18_inflateIfNeededFor_11 : decode cJ18_inflateIfNeededFor 11 = .ok (.invokevirtual 40, 3) := dk_182 0 40 (dk_at dksJ18_inflateIfNeededFor_0 11 rfl rfl)
theorem dJ18_inflateIfNeededFor_14 : decode cJ18_inflateIfNeededFor 14 = .ok (.if_icmp .eq 7, 3) := dk_159 0 7 (dk_at dksJ18_inflateIfNeededFor_0 14 rfl rfl)
theorem dJ18_inflateIfNeededFor_17 : decode cJ18_inflateIfNeededFor 17 = .ok (.aload_n 0, 1) := dk_42 (dk_at dksJ18_inflateIfNeededFor_0 17 rfl rfl)
theorem dJ18_inflateIfNeededFor_18 : decode cJ18_inflateIfNeededFor 18 = .ok (.invokevirtual 195, 3) := dk_182 0 195 (dk_at dksJ18_inflateIfNeededFor_0 18 rfl rfl)
theorem dJ18_inflateIfNeededFor_21 : decode cJ18_inflateIfNeededFor 21 = .ok (.return_, 1) := dk_177 (dk_at dksJ18_inflateIfNeededFor_0 21 rfl rfl)
abbrev cJ18_compareTo : ByteArray := prog_67_method_5_code
def yJ18_compareTo : MethodName := ⟨RJ18, "compareTo", "(Ljava/lang/AbstractStringBuilder;)I"⟩
def dkwJ18_compareTo_4 : List UInt8 := [184, 0, 97, 172]
abbrev dktJ18_compareTo_4 : List UInt8 := dkwJ18_compareTo_4 ++ []
def dkwJ18_compareTo_3 : List UInt8 := [182, 0, 83, 153, 0, 15, 44, 45, 21, 4, 21, 5, 184, 0, 94, 167, 0, 12, 44, 45, 21, 4, 21, 5]
abbrev dktJ18_compareTo_3 : List UInt8 := dkwJ18_compareTo_3 ++ dktJ18_compareTo_4
def dkwJ18_compareTo_2 : List UInt8 := [45, 21, 4, 21, 5, 184, 0, 87, 167, 0, 12, 44, 45, 21, 4, 21, 5, 184, 0, 93, 172, 42]
abbrev dktJ18_compareTo_2 : List UInt8 := dkwJ18_compareTo_2 ++ dktJ18_compareTo_3
def dkwJ18_compareTo_1 : List UInt8 := [180, 0, 79, 54, 5, 42, 180, 0, 22, 43, 180, 0, 22, 160, 0, 32, 42, 182, 0, 83, 153, 0, 15, 44]
abbrev dktJ18_compareTo_1 : List UInt8 := dkwJ18_compareTo_1 ++ dktJ18_compareTo_2
def dkwJ18_compareTo_0 : List UInt8 := [42, 43, 166, 0, 5, 3, 172, 42, 180, 0, 15, 77, 43, 180, 0, 15, 78, 42, 180, 0, 79, 54, 4, 43]
abbrev dktJ18_compareTo_0 : List UInt8 := dkwJ18_compareTo_0 ++ dktJ18_compareTo_1
theorem dksJ18_compareTo_0 : cJ18_compareTo.data.toList.drop 0 = dktJ18_compareTo_0 := by decide +kernel
theorem dksJ18_compareTo_1 : cJ18_compareTo.data.toList.drop 24 = dktJ18_compareTo_1 := dk_seg dksJ18_compareTo_0 24 rfl rfl
theorem dksJ18_compareTo_2 : cJ18_compareTo.data.toList.drop 48 = dktJ18_compareTo_2 := dk_seg dksJ18_compareTo_1 24 rfl rfl
theorem dksJ18_compareTo_3 : cJ18_compareTo.data.toList.drop 70 = dktJ18_compareTo_3 := dk_seg dksJ18_compareTo_2 22 rfl rfl
theorem dksJ18_compareTo_4 : cJ18_compareTo.data.toList.drop 94 = dktJ18_compareTo_4 := dk_seg dksJ18_compareTo_3 24 rfl rfl
theorem dJ18_compareTo_0 : decode cJ18_compareTo 0 = .ok (.aload_n 0, 1) := dk_42 (dk_at dksJ18_compareTo_0 0 rfl rfl)
theorem dJ18_compareTo_1 : decode cJ18_compareTo 1 = .ok (.aload_n 1, 1) := dk_43 (dk_at dksJ18_compareTo_0 1 rfl rfl)
theorem dJ18_compareTo_2 : decode cJ18_compareTo 2 = .ok (.if_acmp .ne 5, 3) := dk_166 0 5 (dk_at dksJ18_compareTo_0 2 rfl rfl)
theorem dJ18_compareTo_5 : decode cJ18_compareTo 5 = .ok (.iconst 0, 1) := dk_3 (dk_at dksJ18_compareTo_0 5 rfl rfl)
theorem dJ18_compareTo_6 : decode cJ18_compareTo 6 = .ok (.ireturn, 1) := dk_172 (dk_at dksJ18_compareTo_0 6 rfl rfl)
theorem dJ18_compareTo_7 : decode cJ18_compareTo 7 = .ok (.aload_n 0, 1) := dk_42 (dk_at dksJ18_compareTo_0 7 rfl rfl)
theorem dJ18_compareTo_8 : decode cJ18_compareTo 8 = .ok (.getfield 15, 3) := dk_180 0 15 (dk_at dksJ18_compareTo_0 8 rfl rfl)
theorem dJ18_compareTo_11 : decode cJ18_compareTo 11 = .ok (.astore_n 2, 1) := dk_77 (dk_at dksJ18_compareTo_0 11 rfl rfl)
theorem dJ18_compareTo_12 : decode cJ18_compareTo 12 = .ok (.aload_n 1, 1) := dk_43 (dk_at dksJ18_compareTo_0 12 rfl rfl)
theorem dJ18_compareTo_13 : decode cJ18_compareTo 13 = .ok (.getfield 15, 3) := dk_180 0 15 (dk_at dksJ18_compareTo_0 13 rfl rfl)
theorem dJ18_compareTo_16 : decode cJ18_compareTo 16 = .ok (.astore_n 3, 1) := dk_78 (dk_at dksJ18_compareTo_0 16 rfl rfl)
theorem dJ18_compareTo_17 : decode cJ18_compareTo 17 = .ok (.aload_n 0, 1) := dk_42 (dk_at dksJ18_compareTo_0 17 rfl rfl)
theorem dJ18_compareTo_18 : decode cJ18_compareTo 18 = .ok (.getfield 79, 3) := dk_180 0 79 (dk_at dksJ18_compareTo_0 18 rfl rfl)
theorem dJ18_compareTo_21 : decode cJ18_compareTo 21 = .ok (.istore 4, 2) := dk_54 4 (dk_at dksJ18_compareTo_0 21 rfl rfl)
theorem dJ18_compareTo_23 : decode cJ18_compareTo 23 = .ok (.aload_n 1, 1) := dk_43 (dk_at dksJ18_compareTo_0 23 rfl rfl)
theorem dJ18_compareTo_24 : decode cJ18_compareTo 24 = .ok (.getfield 79, 3) := dk_180 0 79 (dk_at dksJ18_compareTo_1 0 rfl rfl)
theorem dJ18_compareTo_27 : decode cJ18_compareTo 27 = .ok (.istore 5, 2) := dk_54 5 (dk_at dksJ18_compareTo_1 3 rfl rfl)
theorem dJ18_compareTo_29 : decode cJ18_compareTo 29 = .ok (.aload_n 0, 1) := dk_42 (dk_at dksJ18_compareTo_1 5 rfl rfl)
theorem dJ18_compareTo_30 : decode cJ18_compareTo 30 = .ok (.getfield 22, 3) := dk_180 0 22 (dk_at dksJ18_compareTo_1 6 rfl rfl)
theorem dJ18_compareTo_33 : decode cJ18_compareTo 33 = .ok (.aload_n 1, 1) := dk_43 (dk_at dksJ18_compareTo_1 9 rfl rfl)
theorem dJ18_compareTo_34 : decode cJ18_compareTo 34 = .ok (.getfield 22, 3) := dk_180 0 22 (dk_at dksJ18_compareTo_1 10 rfl rfl)
theorem dJ18_compareTo_37 : decode cJ18_compareTo 37 = .ok (.if_icmp .ne 32, 3) := dk_160 0 32 (dk_at dksJ18_compareTo_1 13 rfl rfl)
theorem dJ18_compareTo_40 : decode cJ18_compareTo 40 = .ok (.aload_n 0, 1) := dk_42 (dk_at dksJ18_compareTo_1 16 rfl rfl)
theorem dJ18_compareTo_41 : decode cJ18_compareTo 41 = .ok (.invokevirtual 83, 3) := dk_182 0 83 (dk_at dksJ18_compareTo_1 17 rfl rfl)
theorem dJ18_compareTo_44 : decode cJ18_compareTo 44 = .ok (.ifCond .eq 15, 3) := dk_153 0 15 (dk_at dksJ18_compareTo_1 20 rfl rfl)
theorem dJ18_compareTo_47 : decode cJ18_compareTo 47 = .ok (.aload_n 2, 1) := dk_44 (dk_at dksJ18_compareTo_1 23 rfl rfl)
theorem dJ18_compareTo_48 : decode cJ18_compareTo 48 = .ok (.aload_n 3, 1) := dk_45 (dk_at dksJ18_compareTo_2 0 rfl rfl)
theorem dJ18_compareTo_49 : decode cJ18_compareTo 49 = .ok (.iload 4, 2) := dk_21 4 (dk_at dksJ18_compareTo_2 1 rfl rfl)
theorem dJ18_compareTo_51 : decode cJ18_compareTo 51 = .ok (.iload 5, 2) := dk_21 5 (dk_at dksJ18_compareTo_2 3 rfl rfl)
theorem dJ18_compareTo_53 : decode cJ18_compareTo 53 = .ok (.invokestatic 87, 3) := dk_184 0 87 (dk_at dksJ18_compareTo_2 5 rfl rfl)
theorem dJ18_compareTo_56 : decode cJ18_compareTo 56 = .ok (.goto 12, 3) := dk_167 0 12 (dk_at dksJ18_compareTo_2 8 rfl rfl)
theorem dJ18_compareTo_59 : decode cJ18_compareTo 59 = .ok (.aload_n 2, 1) := dk_44 (dk_at dksJ18_compareTo_2 11 rfl rfl)
theorem dJ18_compareTo_60 : decode cJ18_compareTo 60 = .ok (.aload_n 3, 1) := dk_45 (dk_at dksJ18_compareTo_2 12 rfl rfl)
theorem dJ18_compareTo_61 : decode cJ18_compareTo 61 = .ok (.iload 4, 2) := dk_21 4 (dk_at dksJ18_compareTo_2 13 rfl rfl)
theorem dJ18_compareTo_63 : decode cJ18_compareTo 63 = .ok (.iload 5, 2) := dk_21 5 (dk_at dksJ18_compareTo_2 15 rfl rfl)
theorem dJ18_compareTo_65 : decode cJ18_compareTo 65 = .ok (.invokestatic 93, 3) := dk_184 0 93 (dk_at dksJ18_compareTo_2 17 rfl rfl)
theorem dJ18_compareTo_68 : decode cJ18_compareTo 68 = .ok (.ireturn, 1) := dk_172 (dk_at dksJ18_compareTo_2 20 rfl rfl)
theorem dJ18_compareTo_69 : decode cJ18_compareTo 69 = .ok (.aload_n 0, 1) := dk_42 (dk_at dksJ18_compareTo_2 21 rfl rfl)
theorem dJ18_compareTo_70 : decode cJ18_compareTo 70 = .ok (.invokevirtual 83, 3) := dk_182 0 83 (dk_at dksJ18_compareTo_3 0 rfl rfl)
theorem dJ18_compareTo_73 : decode cJ18_compareTo 73 = .ok (.ifCond .eq 15, 3) := dk_153 0 15 (dk_at dksJ18_compareTo_3 3 rfl rfl)
theorem dJ18_compareTo_76 : decode cJ18_compareTo 76 = .ok (.aload_n 2, 1) := dk_44 (dk_at dksJ18_compareTo_3 6 rfl rfl)
theorem dJ18_compareTo_77 : decode cJ18_compareTo 77 = .ok (.aload_n 3, 1) := dk_45 (dk_at dksJ18_compareTo_3 7 rfl rfl)
theorem dJ18_compareTo_78 : decode cJ18_compareTo 78 = .ok (.iload 4, 2) := dk_21 4 (dk_at dksJ18_compareTo_3 8 rfl rfl)
theorem dJ18_compareTo_80 : decode cJ18_compareTo 80 = .ok (.iload 5, 2) := dk_21 5 (dk_at dksJ18_compareTo_3 10 rfl rfl)
theorem dJ18_compareTo_82 : decode cJ18_compareTo 82 = .ok (.invokestatic 94, 3) := dk_184 0 94 (dk_at dksJ18_compareTo_3 12 rfl rfl)
theorem dJ18_compareTo_85 : decode cJ18_compareTo 85 = .ok (.goto 12, 3) := dk_167 0 12 (dk_at dksJ18_compareTo_3 15 rfl rfl)
theorem dJ18_compareTo_88 : decode cJ18_compareTo 88 = .ok (.aload_n 2, 1) := dk_44 (dk_at dksJ18_compareTo_3 18 rfl rfl)
theorem dJ18_compareTo_89 : decode cJ18_compareTo 89 = .ok (.aload_n 3, 1) := dk_45 (dk_at dksJ18_compareTo_3 19 rfl rfl)
theorem dJ18_compareTo_90 : decode cJ18_compareTo 90 = .ok (.iload 4, 2) := dk_21 4 (dk_at dksJ18_compareTo_3 20 rfl rfl)
theorem dJ18_compareTo_92 : decode cJ18_compareTo 92 = .ok (.iload 5, 2) := dk_21 5 (dk_at dksJ18_compareTo_3 22 rfl rfl)
theorem dJ18_compareTo_94 : decode cJ18_compareTo 94 = .ok (.invokestatic 97, 3) := dk_184 0 97 (dk_at dksJ18_compareTo_4 0 rfl rfl)
theorem dJ18_compareTo_97 : decode cJ18_compareTo 97 = .ok (.ireturn, 1) := dk_172 (dk_at dksJ18_compareTo_4 3 rfl rfl)
abbrev cJ18_append_4 : ByteArray := prog_67_method_33_code
def yJ18_append_4 : MethodName := ⟨RJ18, "append", "(J)Ljava/lang/AbstractStringBuilder;"⟩
def dkwJ18_append_4_2 : List UInt8 := [180, 0, 15, 184, 1, 6, 87, 42, 21, 4, 181, 0, 79, 42, 176]
abbrev dktJ18_append_4_2 : List UInt8 := dkwJ18_append_4_2 ++ []
def dkwJ18_append_4_1 : List UInt8 := [153, 0, 17, 31, 21, 4, 42, 180, 0, 15, 184, 1, 3, 87, 167, 0, 15, 31, 29, 21, 4, 42]
abbrev dktJ18_append_4_1 : List UInt8 := dkwJ18_append_4_1 ++ dktJ18_append_4_2
def dkwJ18_append_4_0 : List UInt8 := [42, 180, 0, 79, 62, 29, 31, 184, 0, 254, 96, 54, 4, 42, 21, 4, 182, 0, 100, 42, 182, 0, 83]
abbrev dktJ18_append_4_0 : List UInt8 := dkwJ18_append_4_0 ++ dktJ18_append_4_1
theorem dksJ18_append_4_0 : cJ18_append_4.data.toList.drop 0 = dktJ18_append_4_0 := by decide +kernel
theorem dksJ18_append_4_1 : cJ18_append_4.data.toList.drop 23 = dktJ18_append_4_1 := dk_seg dksJ18_append_4_0 23 rfl rfl
theorem dksJ18_append_4_2 : cJ18_append_4.data.toList.drop 45 = dktJ18_append_4_2 := dk_seg dksJ18_append_4_1 22 rfl rfl
theorem dJ18_append_4_0 : decode cJ18_append_4 0 = .ok (.aload_n 0, 1) := dk_42 (dk_at dksJ18_append_4_0 0 rfl rfl)
theorem dJ18_append_4_1 : decode cJ18_append_4 1 = .ok (.getfield 79, 3) := dk_180 0 79 (dk_at dksJ18_append_4_0 1 rfl rfl)
theorem dJ18_append_4_4 : decode cJ18_append_4 4 = .ok (.istore_n 3, 1) := dk_62 (dk_at dksJ18_append_4_0 4 rfl rfl)
theorem dJ18_append_4_5 : decode cJ18_append_4 5 = .ok (.iload_n 3, 1) := dk_29 (dk_at dksJ18_append_4_0 5 rfl rfl)
theorem dJ18_append_4_6 : decode cJ18_append_4 6 = .ok (.lload_n 1, 1) := dk_31 (dk_at dksJ18_append_4_0 6 rfl rfl)
theorem dJ18_append_4_7 : decode cJ18_append_4 7 = .ok (.invokestatic 254, 3) := dk_184 0 254 (dk_at dksJ18_append_4_0 7 rfl rfl)
theorem dJ18_append_4_10 : decode cJ18_append_4 10 = .ok (.iadd, 1) := dk_96 (dk_at dksJ18_append_4_0 10 rfl rfl)
theorem dJ18_append_4_11 : decode cJ18_append_4 11 = .ok (.istore 4, 2) := dk_54 4 (dk_at dksJ18_append_4_0 11 rfl rfl)
theorem dJ18_append_4_13 : decode cJ18_append_4 13 = .ok (.aload_n 0, 1) := dk_42 (dk_at dksJ18_append_4_0 13 rfl rfl)
theorem dJ18_append_4_14 : decode cJ18_append_4 14 = .ok (.iload 4, 2) := dk_21 4 (dk_at dksJ18_append_4_0 14 rfl rfl)
theorem dJ18_append_4_16 : decode cJ18_append_4 16 = .ok (.invokevirtual 100, 3) := dk_182 0 100 (dk_at dksJ18_append_4_0 16 rfl rfl)
theorem dJ18_append_4_19 : decode cJ18_append_4 19 = .ok (.aload_n 0, 1) := dk_42 (dk_at dksJ18_append_4_0 19 rfl rfl)
theorem dJ18_append_4_20 : decode cJ18_append_4 20 = .ok (.invokevirtual 83, 3) := dk_182 0 83 (dk_at dksJ18_append_4_0 20 rfl rfl)
theorem dJ18_append_4_23 : decode cJ18_append_4 23 = .ok (.ifCond .eq 17, 3) := dk_153 0 17 (dk_at dksJ18_append_4_1 0 rfl rfl)
theorem dJ18_append_4_26 : decode cJ18_append_4 26 = .ok (.lload_n 1, 1) := dk_31 (dk_at dksJ18_append_4_1 3 rfl rfl)
theorem dJ18_append_4_27 : decode cJ18_append_4 27 = .ok (.iload 4, 2) := dk_21 4 (dk_at dksJ18_append_4_1 4 rfl rfl)
theorem dJ18_append_4_29 : decode cJ18_append_4 29 = .ok (.aload_n 0, 1) := dk_42 (dk_at dksJ18_append_4_1 6 rfl rfl)
theorem dJ18_append_4_30 : decode cJ18_append_4 30 = .ok (.getfield 15, 3) := dk_180 0 15 (dk_at dksJ18_append_4_1 7 rfl rfl)
theorem dJ18_append_4_33 : decode cJ18_append_4 33 = .ok (.invokestatic 259, 3) := dk_184 1 3 (dk_at dksJ18_append_4_1 10 rfl rfl)
theorem dJ18_append_4_36 : decode cJ18_append_4 36 = .ok (.pop, 1) := dk_87 (dk_at dksJ18_append_4_1 13 rfl rfl)
theorem dJ18_append_4_37 : decode cJ18_append_4 37 = .ok (.goto 15, 3) := dk_167 0 15 (dk_at dksJ18_append_4_1 14 rfl rfl)
theorem dJ18_append_4_40 : decode cJ18_append_4 40 = .ok (.lload_n 1, 1) := dk_31 (dk_at dksJ18_append_4_1 17 rfl rfl)
theorem dJ18_append_4_41 : decode cJ18_append_4 41 = .ok (.iload_n 3, 1) := dk_29 (dk_at dksJ18_append_4_1 18 rfl rfl)
theorem dJ18_append_4_42 : decode cJ18_append_4 42 = .ok (.iload 4, 2) := dk_21 4 (dk_at dksJ18_append_4_1 19 rfl rfl)
theorem dJ18_append_4_44 : decode cJ18_append_4 44 = .ok (.aload_n 0, 1) := dk_42 (dk_at dksJ18_append_4_1 21 rfl rfl)
theorem dJ18_append_4_45 : decode cJ18_append_4 45 = .ok (.getfield 15, 3) := dk_180 0 15 (dk_at dksJ18_append_4_2 0 rfl rfl)
theorem dJ18_append_4_48 : decode cJ18_append_4 48 = .ok (.invokestatic 262, 3) := dk_184 1 6 (dk_at dksJ18_append_4_2 3 rfl rfl)
theorem dJ18_append_4_51 : decode cJ18_append_4 51 = .ok (.pop, 1) := dk_87 (dk_at dksJ18_append_4_2 6 rfl rfl)
theorem dJ18_append_4_52 : decode cJ18_append_4 52 = .ok (.aload_n 0, 1) := dk_42 (dk_at dksJ18_append_4_2 7 rfl rfl)
theorem dJ18_append_4_53 : decode cJ18_append_4 53 = .ok (.iload 4, 2) := dk_21 4 (dk_at dksJ18_append_4_2 8 rfl rfl)
theorem dJ18_append_4_55 : decode cJ18_append_4 55 = .ok (.putfield 79, 3) := dk_181 0 79 (dk_at dksJ18_append_4_2 10 rfl rfl)
theorem dJ18_append_4_58 : decode cJ18_append_4 58 = .ok (.aload_n 0, 1) := dk_42 (dk_at dksJ18_append_4_2 13 rfl rfl)
theorem dJ18_append_4_59 : decode cJ18_append_4 59 = .ok (.areturn, 1) := dk_176 (dk_at dksJ18_append_4_2 14 rfl rfl)
theorem q469 : (Jvm.Cond.initialized "java/lang/AbstractStringBuilder") ∈ lw_all := lw_g (lw_at lw_m1 77 rfl) rfl
theorem q2629 : (Jvm.Cond.instanceMethod ({ cls := "java/lang/AbstractStringBuilder", name := "<init>", desc := "(I)V" } : Jvm.MethodName)) ∈ lw_all := lw_g (lw_at lw_m10 77 rfl) rfl
theorem q2630 : (Jvm.Cond.code ({ cls := "java/lang/AbstractStringBuilder", name := "<init>", desc := "(I)V" } : Jvm.MethodName) prog_67_method_2_code (2 : Nat) (Option.none : Option Jvm.ClassFile.FieldType)) ∈ lw_all := lw_g (lw_at lw_m10 78 rfl) rfl
theorem q2631 : (Jvm.Cond.methodLink "java/lang/AbstractStringBuilder" (3 : Nat) ({ cls := "java/lang/Object", name := "<init>", desc := "()V" } : Jvm.MethodName)) ∈ lw_all := lw_g (lw_at lw_m10 79 rfl) rfl
theorem q2632 : (Jvm.Cond.fieldLink "java/lang/AbstractStringBuilder" (18 : Nat) "java/lang/String" "COMPACT_STRINGS" "Z") ∈ lw_all := lw_g (lw_at lw_m10 80 rfl) rfl
theorem q2634 : (Jvm.Cond.methodLink "java/lang/AbstractStringBuilder" (26 : Nat) ({ cls := "java/lang/StringUTF16", name := "newBytesFor", desc := "(I)[B" } : Jvm.MethodName)) ∈ lw_all := lw_g (lw_at lw_m10 82 rfl) rfl
theorem q2641 : (Jvm.Cond.fieldLink "java/lang/AbstractStringBuilder" (15 : Nat) "java/lang/AbstractStringBuilder" "value" "[B") ∈ lw_all := lw_g (lw_at lw_m10 89 rfl) rfl
theorem q2642 : (Jvm.Cond.fieldLink "java/lang/AbstractStringBuilder" (22 : Nat) "java/lang/AbstractStringBuilder" "coder" "B") ∈ lw_all := lw_g (lw_at lw_m10 90 rfl) rfl
theorem q2644 : (Jvm.Cond.fieldLink "java/lang/AbstractStringBuilder" (79 : Nat) "java/lang/AbstractStringBuilder" "count" "I") ∈ lw_all := lw_g (lw_at lw_m10 92 rfl) rfl
theorem q2646 : (Jvm.Cond.soleField "java/lang/AbstractStringBuilder" "value") ∈ lw_all := lw_g (lw_at lw_m10 94 rfl) rfl
theorem q2648 : (Jvm.Cond.soleField "java/lang/AbstractStringBuilder" "coder") ∈ lw_all := lw_g (lw_at lw_m10 96 rfl) rfl
theorem q2650 : (Jvm.Cond.soleField "java/lang/AbstractStringBuilder" "maybeLatin1") ∈ lw_all := lw_g (lw_at lw_m10 98 rfl) rfl
theorem q2652 : (Jvm.Cond.soleField "java/lang/AbstractStringBuilder" "count") ∈ lw_all := lw_g (lw_at lw_m10 100 rfl) rfl
theorem q2659 : (Jvm.Cond.instanceMethod ({ cls := "java/lang/AbstractStringBuilder", name := "append", desc := "(C)Ljava/lang/AbstractStringBuilder;" } : Jvm.MethodName)) ∈ lw_all := lw_g (lw_at lw_m10 107 rfl) rfl
theorem q2660 : (Jvm.Cond.code ({ cls := "java/lang/AbstractStringBuilder", name := "append", desc := "(C)Ljava/lang/AbstractStringBuilder;" } : Jvm.MethodName) prog_67_method_31_code (2 : Nat) (Option.some (Jvm.ClassFile.FieldType.object "java/lang/AbstractStringBuilder"))) ∈ lw_all := lw_g (lw_at lw_m10 108 rfl) rfl
theorem q2661 : (Jvm.Cond.methodLink "java/lang/AbstractStringBuilder" (100 : Nat) ({ cls := "java/lang/AbstractStringBuilder", name := "ensureCapacityInternal", desc := "(I)V" } : Jvm.MethodName)) ∈ lw_all := lw_g (lw_at lw_m10 109 rfl) rfl
theorem q2662 : (Jvm.Cond.privateMethod ({ cls := "java/lang/AbstractStringBuilder", name := "ensureCapacityInternal", desc := "(I)V" } : Jvm.MethodName)) ∈ lw_tbl := lw_at lw_m10 110 rfl
theorem q2663 : (Jvm.Cond.instanceMethod ({ cls := "java/lang/AbstractStringBuilder", name := "ensureCapacityInternal", desc := "(I)V" } : Jvm.MethodName)) ∈ lw_all := lw_g (lw_at lw_m10 111 rfl) rfl
theorem q2664 : (Jvm.Cond.code ({ cls := "java/lang/AbstractStringBuilder", name := "ensureCapacityInternal", desc := "(I)V" } : Jvm.MethodName) prog_67_method_9_code (3 : Nat) (Option.none : Option Jvm.ClassFile.FieldType)) ∈ lw_all := lw_g (lw_at lw_m10 112 rfl) rfl
theorem q2665 : (Jvm.Cond.methodLink "java/lang/AbstractStringBuilder" (104 : Nat) ({ cls := "java/lang/AbstractStringBuilder", name := "newCapacity", desc := "(I)I" } : Jvm.MethodName)) ∈ lw_all := lw_g (lw_at lw_m10 113 rfl) rfl
theorem q2666 : (Jvm.Cond.privateMethod ({ cls := "java/lang/AbstractStringBuilder", name := "newCapacity", desc := "(I)I" } : Jvm.MethodName)) ∈ lw_tbl := lw_at lw_m10 114 rfl
theorem q2667 : (Jvm.Cond.instanceMethod ({ cls := "java/lang/AbstractStringBuilder", name := "newCapacity", desc := "(I)I" } : Jvm.MethodName)) ∈ lw_all := lw_g (lw_at lw_m10 115 rfl) rfl
theorem q2668 : (Jvm.Cond.code ({ cls := "java/lang/AbstractStringBuilder", name := "newCapacity", desc := "(I)I" } : Jvm.MethodName) prog_67_method_10_code (6 : Nat) (Option.some Jvm.ClassFile.FieldType.int)) ∈ lw_all := lw_g (lw_at lw_m10 116 rfl) rfl
theorem q2669 : (Jvm.Cond.methodLink "java/lang/AbstractStringBuilder" (114 : Nat) ({ cls := "jdk/internal/util/ArraysSupport", name := "newLength", desc := "(III)I" } : Jvm.MethodName)) ∈ lw_all := lw_g (lw_at lw_m10 117 rfl) rfl
theorem q2670 : (Jvm.Cond.constant "java/lang/AbstractStringBuilder" (39 : Nat) (2147483647 : Int32)) ∈ lw_all := lw_g (lw_at lw_m10 118 rfl) rfl
theorem q2671 : (Jvm.Cond.methodLink "java/lang/AbstractStringBuilder" (108 : Nat) ({ cls := "java/util/Arrays", name := "copyOf", desc := "([BI)[B" } : Jvm.MethodName)) ∈ lw_all := lw_g (lw_at lw_m10 119 rfl) rfl
theorem q2679 : (Jvm.Cond.methodLink "java/lang/AbstractStringBuilder" (83 : Nat) ({ cls := "java/lang/AbstractStringBuilder", name := "isLatin1", desc := "()Z" } : Jvm.MethodName)) ∈ lw_all := lw_g (lw_at lw_m10 127 rfl) rfl
theorem q2680 : (Jvm.Cond.instanceMethod ({ cls := "java/lang/AbstractStringBuilder", name := "isLatin1", desc := "()Z" } : Jvm.MethodName)) ∈ lw_all := lw_g (lw_at lw_m10 128 rfl) rfl
theorem q2681 : (Jvm.Cond.sameMethod "java/lang/AbstractStringBuilder" "java/lang/AbstractStringBuilder" "isLatin1" "()Z") ∈ lw_all := lw_g (lw_at lw_m10 129 rfl) rfl
theorem q2683 : (Jvm.Cond.code ({ cls := "java/lang/AbstractStringBuilder", name := "isLatin1", desc := "()Z" } : Jvm.MethodName) prog_67_method_68_code (1 : Nat) (Option.some Jvm.ClassFile.FieldType.boolean)) ∈ lw_all := lw_g (lw_at lw_m10 131 rfl) rfl
theorem q2684 : (Jvm.Cond.methodLink "java/lang/AbstractStringBuilder" (191 : Nat) ({ cls := "java/lang/StringLatin1", name := "canEncode", desc := "(C)Z" } : Jvm.MethodName)) ∈ lw_all := lw_g (lw_at lw_m10 132 rfl) rfl
theorem q2687 : (Jvm.Cond.methodLink "java/lang/AbstractStringBuilder" (195 : Nat) ({ cls := "java/lang/AbstractStringBuilder", name := "inflate", desc := "()V" } : Jvm.MethodName)) ∈ lw_all := lw_g (lw_at lw_m10 135 rfl) rfl
theorem q2688 : (Jvm.Cond.privateMethod ({ cls := "java/lang/AbstractStringBuilder", name := "inflate", desc := "()V" } : Jvm.MethodName)) ∈ lw_tbl := lw_at lw_m10 136 rfl
theorem q2689 : (Jvm.Cond.instanceMethod ({ cls := "java/lang/AbstractStringBuilder", name := "inflate", desc := "()V" } : Jvm.MethodName)) ∈ lw_all := lw_g (lw_at lw_m10 137 rfl) rfl
theorem q2690 : (Jvm.Cond.code ({ cls := "java/lang/AbstractStringBuilder", name := "inflate", desc := "()V" } : Jvm.MethodName) prog_67_method_11_code (2 : Nat) (Option.none : Option Jvm.ClassFile.FieldType)) ∈ lw_all := lw_g (lw_at lw_m10 138 rfl) rfl
theorem q2691 : (Jvm.Cond.methodLink "java/lang/AbstractStringBuilder" (125 : Nat) ({ cls := "java/lang/StringLatin1", name := "inflate", desc := "([BI[BII)V" } : Jvm.MethodName)) ∈ lw_all := lw_g (lw_at lw_m10 139 rfl) rfl
theorem q2720 : (Jvm.Cond.methodLink "java/lang/AbstractStringBuilder" (197 : Nat) ({ cls := "java/lang/StringUTF16", name := "putCharSB", desc := "([BII)V" } : Jvm.MethodName)) ∈ lw_all := lw_g (lw_at lw_m10 168 rfl) rfl
theorem q2746 : (Jvm.Cond.instanceMethod ({ cls := "java/lang/AbstractStringBuilder", name := "getValue", desc := "()[B" } : Jvm.MethodName)) ∈ lw_all := lw_g (lw_at lw_m10 194 rfl) rfl
theorem q2747 : (Jvm.Cond.sameMethod "java/lang/AbstractStringBuilder" "java/lang/AbstractStringBuilder" "getValue" "()[B") ∈ lw_all := lw_g (lw_at lw_m10 195 rfl) rfl
theorem q2749 : (Jvm.Cond.code ({ cls := "java/lang/AbstractStringBuilder", name := "getValue", desc := "()[B" } : Jvm.MethodName) prog_67_method_64_code (1 : Nat) (Option.some (Jvm.ClassFile.FieldType.array Jvm.ClassFile.FieldType.byte))) ∈ lw_all := lw_g (lw_at lw_m10 197 rfl) rfl
theorem q2751 : (Jvm.Cond.instanceMethod ({ cls := "java/lang/AbstractStringBuilder", name := "length", desc := "()I" } : Jvm.MethodName)) ∈ lw_all := lw_g (lw_at lw_m10 199 rfl) rfl
theorem q2752 : (Jvm.Cond.sameMethod "java/lang/AbstractStringBuilder" "java/lang/AbstractStringBuilder" "length" "()I") ∈ lw_all := lw_g (lw_at lw_m10 200 rfl) rfl
theorem q2757 : (Jvm.Cond.code ({ cls := "java/lang/AbstractStringBuilder", name := "length", desc := "()I" } : Jvm.MethodName) prog_67_method_6_code (1 : Nat) (Option.some Jvm.ClassFile.FieldType.int)) ∈ lw_all := lw_g (lw_at lw_m10 205 rfl) rfl
theorem q2817 : (Jvm.Cond.instanceMethod ({ cls := "java/lang/AbstractStringBuilder", name := "append", desc := "(I)Ljava/lang/AbstractStringBuilder;" } : Jvm.MethodName)) ∈ lw_all := lw_g (lw_at lw_m11 25 rfl) rfl
theorem q2818 : (Jvm.Cond.code ({ cls := "java/lang/AbstractStringBuilder", name := "append", desc := "(I)Ljava/lang/AbstractStringBuilder;" } : Jvm.MethodName) prog_67_method_32_code (4 : Nat) (Option.some (Jvm.ClassFile.FieldType.object "java/lang/AbstractStringBuilder"))) ∈ lw_all := lw_g (lw_at lw_m11 26 rfl) rfl
theorem q2819 : (Jvm.Cond.methodLink "java/lang/AbstractStringBuilder" (245 : Nat) ({ cls := "java/lang/Integer", name := "stringSize", desc := "(I)I" } : Jvm.MethodName)) ∈ lw_all := lw_g (lw_at lw_m11 27 rfl) rfl
theorem q2822 : (Jvm.Cond.methodLink "java/lang/AbstractStringBuilder" (248 : Nat) ({ cls := "java/lang/Integer", name := "getChars", desc := "(II[B)I" } : Jvm.MethodName)) ∈ lw_all := lw_g (lw_at lw_m11 30 rfl) rfl
theorem q2829 : (Jvm.Cond.methodLink "java/lang/AbstractStringBuilder" (251 : Nat) ({ cls := "java/lang/StringUTF16", name := "getChars", desc := "(III[B)I" } : Jvm.MethodName)) ∈ lw_all := lw_g (lw_at lw_m11 37 rfl) rfl
theorem q2852 : (Jvm.Cond.instanceMethod ({ cls := "java/lang/AbstractStringBuilder", name := "append", desc := "(Ljava/lang/String;)Ljava/lang/AbstractStringBuilder;" } : Jvm.MethodName)) ∈ lw_all := lw_g (lw_at lw_m11 60 rfl) rfl
theorem q2853 : (Jvm.Cond.code ({ cls := "java/lang/AbstractStringBuilder", name := "append", desc := "(Ljava/lang/String;)Ljava/lang/AbstractStringBuilder;" } : Jvm.MethodName) prog_67_method_22_code (3 : Nat) (Option.some (Jvm.ClassFile.FieldType.object "java/lang/AbstractStringBuilder"))) ∈ lw_all := lw_g (lw_at lw_m11 61 rfl) rfl
theorem q2854 : (Jvm.Cond.methodLink "java/lang/AbstractStringBuilder" (204 : Nat) ({ cls := "java/lang/AbstractStringBuilder", name := "appendNull", desc := "()Ljava/lang/AbstractStringBuilder;" } : Jvm.MethodName)) ∈ lw_all := lw_g (lw_at lw_m11 62 rfl) rfl
theorem q2855 : (Jvm.Cond.privateMethod ({ cls := "java/lang/AbstractStringBuilder", name := "appendNull", desc := "()Ljava/lang/AbstractStringBuilder;" } : Jvm.MethodName)) ∈ lw_tbl := lw_at lw_m11 63 rfl
theorem q2856 : (Jvm.Cond.instanceMethod ({ cls := "java/lang/AbstractStringBuilder", name := "appendNull", desc := "()Ljava/lang/AbstractStringBuilder;" } : Jvm.MethodName)) ∈ lw_all := lw_g (lw_at lw_m11 64 rfl) rfl
theorem q2857 : (Jvm.Cond.code ({ cls := "java/lang/AbstractStringBuilder", name := "appendNull", desc := "()Ljava/lang/AbstractStringBuilder;" } : Jvm.MethodName) prog_67_method_26_code (3 : Nat) (Option.some (Jvm.ClassFile.FieldType.object "java/lang/AbstractStringBuilder"))) ∈ lw_all := lw_g (lw_at lw_m11 65 rfl) rfl
theorem q2858 : (Jvm.Cond.methodLink "java/lang/AbstractStringBuilder" (226 : Nat) ({ cls := "java/lang/StringUTF16", name := "putCharsAt", desc := "([BICCCC)I" } : Jvm.MethodName)) ∈ lw_all := lw_g (lw_at lw_m11 66 rfl) rfl
theorem q2861 : (Jvm.Cond.methodLink "java/lang/AbstractStringBuilder" (32 : Nat) ({ cls := "java/lang/String", name := "length", desc := "()I" } : Jvm.MethodName)) ∈ lw_all := lw_g (lw_at lw_m11 69 rfl) rfl
theorem q2870 : (Jvm.Cond.methodLink "java/lang/AbstractStringBuilder" (208 : Nat) ({ cls := "java/lang/AbstractStringBuilder", name := "putStringAt", desc := "(ILjava/lang/String;)V" } : Jvm.MethodName)) ∈ lw_all := lw_g (lw_at lw_m11 78 rfl) rfl
theorem q2871 : (Jvm.Cond.privateMethod ({ cls := "java/lang/AbstractStringBuilder", name := "putStringAt", desc := "(ILjava/lang/String;)V" } : Jvm.MethodName)) ∈ lw_tbl := lw_at lw_m11 79 rfl
theorem q2872 : (Jvm.Cond.instanceMethod ({ cls := "java/lang/AbstractStringBuilder", name := "putStringAt", desc := "(ILjava/lang/String;)V" } : Jvm.MethodName)) ∈ lw_all := lw_g (lw_at lw_m11 80 rfl) rfl
theorem q2873 : (Jvm.Cond.code ({ cls := "java/lang/AbstractStringBuilder", name := "putStringAt", desc := "(ILjava/lang/String;)V" } : Jvm.MethodName) prog_67_method_73_code (3 : Nat) (Option.none : Option Jvm.ClassFile.FieldType)) ∈ lw_all := lw_g (lw_at lw_m11 81 rfl) rfl
theorem q2874 : (Jvm.Cond.methodLink "java/lang/AbstractStringBuilder" (397 : Nat) ({ cls := "java/lang/AbstractStringBuilder", name := "inflateIfNeededFor", desc := "(Ljava/lang/String;)V" } : Jvm.MethodName)) ∈ lw_all := lw_g (lw_at lw_m11 82 rfl) rfl
theorem q2875 : (Jvm.Cond.privateMethod ({ cls := "java/lang/AbstractStringBuilder", name := "inflateIfNeededFor", desc := "(Ljava/lang/String;)V" } : Jvm.MethodName)) ∈ lw_tbl := lw_at lw_m11 83 rfl
theorem q2876 : (Jvm.Cond.instanceMethod ({ cls := "java/lang/AbstractStringBuilder", name := "inflateIfNeededFor", desc := "(Ljava/lang/String;)V" } : Jvm.MethodName)) ∈ lw_all := lw_g (lw_at lw_m11 84 rfl) rfl
theorem q2877 : (Jvm.Cond.code ({ cls := "java/lang/AbstractStringBuilder", name := "inflateIfNeededFor", desc := "(Ljava/lang/String;)V" } : Jvm.MethodName) prog_67_method_71_code (2 : Nat) (Option.none : Option Jvm.ClassFile.FieldType)) ∈ lw_all := lw_g (lw_at lw_m11 85 rfl) rfl
theorem q2878 : (Jvm.Cond.methodLink "java/lang/AbstractStringBuilder" (40 : Nat) ({ cls := "java/lang/String", name := "coder", desc := "()B" } : Jvm.MethodName)) ∈ lw_all := lw_g (lw_at lw_m11 86 rfl) rfl
theorem q2879 : (Jvm.Cond.methodLink "java/lang/AbstractStringBuilder" (399 : Nat) ({ cls := "java/lang/String", name := "getBytes", desc := "([BIB)V" } : Jvm.MethodName)) ∈ lw_all := lw_g (lw_at lw_m11 87 rfl) rfl
theorem q4019 : (Jvm.Cond.instanceMethod ({ cls := "java/lang/AbstractStringBuilder", name := "compareTo", desc := "(Ljava/lang/AbstractStringBuilder;)I" } : Jvm.MethodName)) ∈ lw_all := lw_g (lw_at lw_m16 27 rfl) rfl
theorem q4020 : (Jvm.Cond.code ({ cls := "java/lang/AbstractStringBuilder", name := "compareTo", desc := "(Ljava/lang/AbstractStringBuilder;)I" } : Jvm.MethodName) prog_67_method_5_code (6 : Nat) (Option.some Jvm.ClassFile.FieldType.int)) ∈ lw_all := lw_g (lw_at lw_m16 28 rfl) rfl
theorem q4021 : (Jvm.Cond.methodLink "java/lang/AbstractStringBuilder" (87 : Nat) ({ cls := "java/lang/StringLatin1", name := "compareTo", desc := "([B[BII)I" } : Jvm.MethodName)) ∈ lw_all := lw_g (lw_at lw_m16 29 rfl) rfl
theorem q4022 : (Jvm.Cond.methodLink "java/lang/AbstractStringBuilder" (93 : Nat) ({ cls := "java/lang/StringUTF16", name := "compareTo", desc := "([B[BII)I" } : Jvm.MethodName)) ∈ lw_all := lw_g (lw_at lw_m16 30 rfl) rfl
theorem q4031 : (Jvm.Cond.methodLink "java/lang/AbstractStringBuilder" (94 : Nat) ({ cls := "java/lang/StringLatin1", name := "compareToUTF16", desc := "([B[BII)I" } : Jvm.MethodName)) ∈ lw_all := lw_g (lw_at lw_m16 39 rfl) rfl
theorem q4035 : (Jvm.Cond.methodLink "java/lang/AbstractStringBuilder" (97 : Nat) ({ cls := "java/lang/StringUTF16", name := "compareToLatin1", desc := "([B[BII)I" } : Jvm.MethodName)) ∈ lw_all := lw_g (lw_at lw_m16 43 rfl) rfl
theorem q6542 : (Jvm.Cond.instanceMethod ({ cls := "java/lang/AbstractStringBuilder", name := "append", desc := "(J)Ljava/lang/AbstractStringBuilder;" } : Jvm.MethodName)) ∈ lw_all := lw_g (lw_at lw_m26 150 rfl) rfl
theorem q6543 : (Jvm.Cond.code ({ cls := "java/lang/AbstractStringBuilder", name := "append", desc := "(J)Ljava/lang/AbstractStringBuilder;" } : Jvm.MethodName) prog_67_method_33_code (5 : Nat) (Option.some (Jvm.ClassFile.FieldType.object "java/lang/AbstractStringBuilder"))) ∈ lw_all := lw_g (lw_at lw_m26 151 rfl) rfl
theorem q6544 : (Jvm.Cond.methodLink "java/lang/AbstractStringBuilder" (254 : Nat) ({ cls := "java/lang/Long", name := "stringSize", desc := "(J)I" } : Jvm.MethodName)) ∈ lw_all := lw_g (lw_at lw_m26 152 rfl) rfl
theorem q6549 : (Jvm.Cond.methodLink "java/lang/AbstractStringBuilder" (259 : Nat) ({ cls := "java/lang/Long", name := "getChars", desc := "(JI[B)I" } : Jvm.MethodName)) ∈ lw_all := lw_g (lw_at lw_m26 157 rfl) rfl
theorem q6556 : (Jvm.Cond.methodLink "java/lang/AbstractStringBuilder" (262 : Nat) ({ cls := "java/lang/StringUTF16", name := "getChars", desc := "(JII[B)I" } : Jvm.MethodName)) ∈ lw_all := lw_g (lw_at lw_m26 164 rfl) rfl
theorem q9590 : (Jvm.Cond.sameMethod "java/lang/AbstractStringBuilder" "java/lang/AbstractStringBuilder" "append" "(C)Ljava/lang/AbstractStringBuilder;") ∈ lw_all := lw_g (lw_at lw_m39 78 rfl) rfl
theorem q9591 : (Jvm.Cond.sameMethod "java/lang/AbstractStringBuilder" "java/lang/AbstractStringBuilder" "ensureCapacityInternal" "(I)V") ∈ lw_all := lw_g (lw_at lw_m39 79 rfl) rfl
theorem q9592 : (Jvm.Cond.sameMethod "java/lang/AbstractStringBuilder" "java/lang/AbstractStringBuilder" "newCapacity" "(I)I") ∈ lw_all := lw_g (lw_at lw_m39 80 rfl) rfl
theorem q9593 : (Jvm.Cond.sameMethod "java/lang/AbstractStringBuilder" "java/lang/AbstractStringBuilder" "inflate" "()V") ∈ lw_all := lw_g (lw_at lw_m39 81 rfl) rfl
theorem q9595 : (Jvm.Cond.sameMethod "java/lang/AbstractStringBuilder" "java/lang/AbstractStringBuilder" "append" "(I)Ljava/lang/AbstractStringBuilder;") ∈ lw_all := lw_g (lw_at lw_m39 83 rfl) rfl
theorem q9596 : (Jvm.Cond.sameMethod "java/lang/AbstractStringBuilder" "java/lang/AbstractStringBuilder" "append" "(Ljava/lang/String;)Ljava/lang/AbstractStringBuilder;") ∈ lw_all := lw_g (lw_at lw_m39 84 rfl) rfl
theorem q9597 : (Jvm.Cond.sameMethod "java/lang/AbstractStringBuilder" "java/lang/AbstractStringBuilder" "appendNull" "()Ljava/lang/AbstractStringBuilder;") ∈ lw_all := lw_g (lw_at lw_m39 85 rfl) rfl
theorem q9598 : (Jvm.Cond.sameMethod "java/lang/AbstractStringBuilder" "java/lang/AbstractStringBuilder" "putStringAt" "(ILjava/lang/String;)V") ∈ lw_all := lw_g (lw_at lw_m39 86 rfl) rfl
theorem q9599 : (Jvm.Cond.sameMethod "java/lang/AbstractStringBuilder" "java/lang/AbstractStringBuilder" "inflateIfNeededFor" "(Ljava/lang/String;)V") ∈ lw_all := lw_g (lw_at lw_m39 87 rfl) rfl
theorem q9600 : (Jvm.Cond.sameMethod "java/lang/AbstractStringBuilder" "java/lang/AbstractStringBuilder" "compareTo" "(Ljava/lang/AbstractStringBuilder;)I") ∈ lw_all := lw_g (lw_at lw_m39 88 rfl) rfl
theorem q9603 : (Jvm.Cond.sameMethod "java/lang/AbstractStringBuilder" "java/lang/AbstractStringBuilder" "append" "(J)Ljava/lang/AbstractStringBuilder;") ∈ lw_all := lw_g (lw_at lw_m39 91 rfl) rfl
