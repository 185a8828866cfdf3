/-! WasteHouseLaw -/
set_option maxRecDepth 100000
def RX0 : String := "WasteHouseLaw"
abbrev cX0_feed : ByteArray := method_3_code
def yX0_feed : MethodName := ⟨RX0, "feed", "(LWasteHouse;IIIII)I"⟩
def dkwX0_feed_0 : List UInt8 := [42, 27, 28, 29, 21, 4, 21, 5, 182, 0, 7, 167, 0, 7, 58, 6, 4, 172, 3, 172]
abbrev dktX0_feed_0 : List UInt8 := dkwX0_feed_0 ++ []
theorem dksX0_feed_0 : cX0_feed.data.toList.drop 0 = dktX0_feed_0 := by decide +kernel
theorem dX0_feed_0 : decode cX0_feed 0 = .ok (.aload_n 0, 1) := dk_42 (dk_at dksX0_feed_0 0 rfl rfl)
theorem dX0_feed_1 : decode cX0_feed 1 = .ok (.iload_n 1, 1) := dk_27 (dk_at dksX0_feed_0 1 rfl rfl)
theorem dX0_feed_2 : decode cX0_feed 2 = .ok (.iload_n 2, 1) := dk_28 (dk_at dksX0_feed_0 2 rfl rfl)
theorem dX0_feed_3 : decode cX0_feed 3 = .ok (.iload_n 3, 1) := dk_29 (dk_at dksX0_feed_0 3 rfl rfl)
theorem dX0_feed_4 : decode cX0_feed 4 = .ok (.iload 4, 2) := dk_21 4 (dk_at dksX0_feed_0 4 rfl rfl)
theorem dX0_feed_6 : decode cX0_feed 6 = .ok (.iload 5, 2) := dk_21 5 (dk_at dksX0_feed_0 6 rfl rfl)
theorem dX0_feed_8 : decode cX0_feed 8 = .ok (.invokevirtual 7, 3) := dk_182 0 7 (dk_at dksX0_feed_0 8 rfl rfl)
theorem dX0_feed_11 : decode cX0_feed 11 = .ok (.goto 7, 3) := dk_167 0 7 (dk_at dksX0_feed_0 11 rfl rfl)
theorem dX0_feed_14 : decode cX0_feed 14 = .ok (.astore 6, 2) := dk_58 6 (dk_at dksX0_feed_0 14 rfl rfl)
theorem dX0_feed_16 : decode cX0_feed 16 = .ok (.iconst 1, 1) := dk_4 (dk_at dksX0_feed_0 16 rfl rfl)
theorem dX0_feed_17 : decode cX0_feed 17 = .ok (.ireturn, 1) := dk_172 (dk_at dksX0_feed_0 17 rfl rfl)
theorem dX0_feed_18 : decode cX0_feed 18 = .ok (.iconst 0, 1) := dk_3 (dk_at dksX0_feed_0 18 rfl rfl)
theorem dX0_feed_19 : decode cX0_feed 19 = .ok (.ireturn, 1) := dk_172 (dk_at dksX0_feed_0 19 rfl rfl)
abbrev cX0_end : ByteArray := method_4_code
def yX0_end : MethodName := ⟨RX0, "end", "(LWasteHouse;I[J)I"⟩
def dkwX0_end_0 : List UInt8 := [44, 3, 42, 27, 182, 0, 15, 133, 80, 167, 0, 6, 78, 4, 172, 3, 172]
abbrev dktX0_end_0 : List UInt8 := dkwX0_end_0 ++ []
theorem dksX0_end_0 : cX0_end.data.toList.drop 0 = dktX0_end_0 := by decide +kernel
theorem dX0_end_0 : decode cX0_end 0 = .ok (.aload_n 2, 1) := dk_44 (dk_at dksX0_end_0 0 rfl rfl)
theorem dX0_end_1 : decode cX0_end 1 = .ok (.iconst 0, 1) := dk_3 (dk_at dksX0_end_0 1 rfl rfl)
theorem dX0_end_2 : decode cX0_end 2 = .ok (.aload_n 0, 1) := dk_42 (dk_at dksX0_end_0 2 rfl rfl)
theorem dX0_end_3 : decode cX0_end 3 = .ok (.iload_n 1, 1) := dk_27 (dk_at dksX0_end_0 3 rfl rfl)
theorem dX0_end_4 : decode cX0_end 4 = .ok (.invokevirtual 15, 3) := dk_182 0 15 (dk_at dksX0_end_0 4 rfl rfl)
theorem dX0_end_7 : decode cX0_end 7 = .ok (.i2l, 1) := dk_133 (dk_at dksX0_end_0 7 rfl rfl)
theorem dX0_end_8 : decode cX0_end 8 = .ok (.lastore, 1) := dk_80 (dk_at dksX0_end_0 8 rfl rfl)
theorem dX0_end_9 : decode cX0_end 9 = .ok (.goto 6, 3) := dk_167 0 6 (dk_at dksX0_end_0 9 rfl rfl)
theorem dX0_end_12 : decode cX0_end 12 = .ok (.astore_n 3, 1) := dk_78 (dk_at dksX0_end_0 12 rfl rfl)
theorem dX0_end_13 : decode cX0_end 13 = .ok (.iconst 1, 1) := dk_4 (dk_at dksX0_end_0 13 rfl rfl)
theorem dX0_end_14 : decode cX0_end 14 = .ok (.ireturn, 1) := dk_172 (dk_at dksX0_end_0 14 rfl rfl)
theorem dX0_end_15 : decode cX0_end 15 = .ok (.iconst 0, 1) := dk_3 (dk_at dksX0_end_0 15 rfl rfl)
theorem dX0_end_16 : decode cX0_end 16 = .ok (.ireturn, 1) := dk_172 (dk_at dksX0_end_0 16 rfl rfl)
theorem q392 : (Jvm.Cond.initialized "WasteHouseLaw") ∈ lw_all := lw_g (lw_at lw_m1 0 rfl) rfl
theorem q506 : (Jvm.Cond.classLink "WasteHouseLaw" (8 : Nat) "WasteHouse") ∈ lw_all := lw_g (lw_at lw_m1 114 rfl) rfl
theorem q508 : (Jvm.Cond.methodLink "WasteHouseLaw" (21 : Nat) ({ cls := "WasteHouse", name := "<init>", desc := "()V" } : Jvm.MethodName)) ∈ lw_all := lw_g (lw_at lw_m1 116 rfl) rfl
theorem q2599 : (Jvm.Cond.methodLink "WasteHouseLaw" (43 : Nat) ({ cls := "WasteHouse", name := "made", desc := "()I" } : Jvm.MethodName)) ∈ lw_all := lw_g (lw_at lw_m10 47 rfl) rfl
theorem q2603 : (Jvm.Cond.methodLink "WasteHouseLaw" (47 : Nat) ({ cls := "WasteHouse", name := "out", desc := "(I)I" } : Jvm.MethodName)) ∈ lw_all := lw_g (lw_at lw_m10 51 rfl) rfl
theorem q2607 : (Jvm.Cond.methodLink "WasteHouseLaw" (39 : Nat) ({ cls := "WasteHouse", name := "run", desc := "()I" } : Jvm.MethodName)) ∈ lw_all := lw_g (lw_at lw_m10 55 rfl) rfl
theorem q6621 : (Jvm.Cond.methodLink "WasteHouseLaw" (51 : Nat) ({ cls := "WasteHouse", name := "wrong", desc := "()I" } : Jvm.MethodName)) ∈ lw_all := lw_g (lw_at lw_m26 229 rfl) rfl
theorem q6625 : (Jvm.Cond.methodLink "WasteHouseLaw" (55 : Nat) ({ cls := "WasteHouse", name := "answers", desc := "()I" } : Jvm.MethodName)) ∈ lw_all := lw_g (lw_at lw_m26 233 rfl) rfl
theorem q6629 : (Jvm.Cond.methodLink "WasteHouseLaw" (59 : Nat) ({ cls := "WasteHouse", name := "answer", desc := "(I)J" } : Jvm.MethodName)) ∈ lw_all := lw_g (lw_at lw_m26 237 rfl) rfl
theorem q6633 : (Jvm.Cond.methodLink "WasteHouseLaw" (64 : Nat) ({ cls := "WasteHouse", name := "account", desc := "(I)J" } : Jvm.MethodName)) ∈ lw_all := lw_g (lw_at lw_m27 1 rfl) rfl
theorem q6637 : (Jvm.Cond.methodLink "WasteHouseLaw" (68 : Nat) ({ cls := "WasteHouse", name := "sound", desc := "()Z" } : Jvm.MethodName)) ∈ lw_all := lw_g (lw_at lw_m27 5 rfl) rfl
theorem q6642 : (Jvm.Cond.methodLink "WasteHouseLaw" (25 : Nat) ({ cls := "WasteHouseLaw", name := "feed", desc := "(LWasteHouse;IIIII)I" } : Jvm.MethodName)) ∈ lw_all := lw_g (lw_at lw_m27 10 rfl) rfl
theorem q6643 : (Jvm.Cond.static ({ cls := "WasteHouseLaw", name := "feed", desc := "(LWasteHouse;IIIII)I" } : Jvm.MethodName)) ∈ lw_all := lw_g (lw_at lw_m27 11 rfl) rfl
theorem q6644 : (Jvm.Cond.codeWith ({ cls := "WasteHouseLaw", name := "feed", desc := "(LWasteHouse;IIIII)I" } : Jvm.MethodName) method_3_code (7 : Nat) (Option.some Jvm.ClassFile.FieldType.int) [((0 : Nat), (11 : Nat), (14 : Nat), (13 : Nat))]) ∈ lw_all := lw_g (lw_at lw_m27 12 rfl) rfl
theorem q6645 : (Jvm.Cond.classLink "WasteHouseLaw" (13 : Nat) "java/lang/IllegalStateException") ∈ lw_all := lw_g (lw_at lw_m27 13 rfl) rfl
theorem q6646 : (Jvm.Cond.methodLink "WasteHouseLaw" (7 : Nat) ({ cls := "WasteHouse", name := "feed", desc := "(IIIII)V" } : Jvm.MethodName)) ∈ lw_all := lw_g (lw_at lw_m27 14 rfl) rfl
theorem q6656 : (Jvm.Cond.methodLink "WasteHouseLaw" (35 : Nat) ({ cls := "WasteHouseLaw", name := "end", desc := "(LWasteHouse;I[J)I" } : Jvm.MethodName)) ∈ lw_all := lw_g (lw_at lw_m27 24 rfl) rfl
theorem q6657 : (Jvm.Cond.static ({ cls := "WasteHouseLaw", name := "end", desc := "(LWasteHouse;I[J)I" } : Jvm.MethodName)) ∈ lw_all := lw_g (lw_at lw_m27 25 rfl) rfl
theorem q6658 : (Jvm.Cond.codeWith ({ cls := "WasteHouseLaw", name := "end", desc := "(LWasteHouse;I[J)I" } : Jvm.MethodName) method_4_code (4 : Nat) (Option.some Jvm.ClassFile.FieldType.int) [((0 : Nat), (9 : Nat), (12 : Nat), (19 : Nat))]) ∈ lw_all := lw_g (lw_at lw_m27 26 rfl) rfl
theorem q6659 : (Jvm.Cond.classLink "WasteHouseLaw" (19 : Nat) "java/lang/IllegalArgumentException") ∈ lw_all := lw_g (lw_at lw_m27 27 rfl) rfl
theorem q6660 : (Jvm.Cond.methodLink "WasteHouseLaw" (15 : Nat) ({ cls := "WasteHouse", name := "end", desc := "(I)I" } : Jvm.MethodName)) ∈ lw_all := lw_g (lw_at lw_m27 28 rfl) rfl
theorem q6667 : (Jvm.Cond.classLink "WasteHouseLaw" (22 : Nat) "WasteHouseModel") ∈ lw_all := lw_g (lw_at lw_m27 35 rfl) rfl
theorem q6669 : (Jvm.Cond.methodLink "WasteHouseLaw" (24 : Nat) ({ cls := "WasteHouseModel", name := "<init>", desc := "()V" } : Jvm.MethodName)) ∈ lw_all := lw_g (lw_at lw_m27 37 rfl) rfl
theorem q7613 : (Jvm.Cond.methodLink "WasteHouseLaw" (31 : Nat) ({ cls := "WasteHouseModel", name := "thrown", desc := "()I" } : Jvm.MethodName)) ∈ lw_all := lw_g (lw_at lw_m31 21 rfl) rfl
theorem q7617 : (Jvm.Cond.methodLink "WasteHouseLaw" (30 : Nat) ({ cls := "WasteHouseModel", name := "feed", desc := "(IIIII)V" } : Jvm.MethodName)) ∈ lw_all := lw_g (lw_at lw_m31 25 rfl) rfl
theorem q7625 : (Jvm.Cond.methodLink "WasteHouseLaw" (38 : Nat) ({ cls := "WasteHouseModel", name := "end", desc := "(I)I" } : Jvm.MethodName)) ∈ lw_all := lw_g (lw_at lw_m31 33 rfl) rfl
theorem q7629 : (Jvm.Cond.methodLink "WasteHouseLaw" (42 : Nat) ({ cls := "WasteHouseModel", name := "run", desc := "()I" } : Jvm.MethodName)) ∈ lw_all := lw_g (lw_at lw_m31 37 rfl) rfl
theorem q9568 : (Jvm.Cond.methodLink "WasteHouseLaw" (46 : Nat) ({ cls := "WasteHouseModel", name := "made", desc := "()I" } : Jvm.MethodName)) ∈ lw_all := lw_g (lw_at lw_m39 56 rfl) rfl
theorem q9572 : (Jvm.Cond.methodLink "WasteHouseLaw" (50 : Nat) ({ cls := "WasteHouseModel", name := "out", desc := "(I)I" } : Jvm.MethodName)) ∈ lw_all := lw_g (lw_at lw_m39 60 rfl) rfl
theorem q9576 : (Jvm.Cond.methodLink "WasteHouseLaw" (54 : Nat) ({ cls := "WasteHouseModel", name := "wrong", desc := "()I" } : Jvm.MethodName)) ∈ lw_all := lw_g (lw_at lw_m39 64 rfl) rfl
theorem q9580 : (Jvm.Cond.methodLink "WasteHouseLaw" (58 : Nat) ({ cls := "WasteHouseModel", name := "answers", desc := "()I" } : Jvm.MethodName)) ∈ lw_all := lw_g (lw_at lw_m39 68 rfl) rfl
theorem q9584 : (Jvm.Cond.methodLink "WasteHouseLaw" (63 : Nat) ({ cls := "WasteHouseModel", name := "answer", desc := "(I)J" } : Jvm.MethodName)) ∈ lw_all := lw_g (lw_at lw_m39 72 rfl) rfl
theorem q9588 : (Jvm.Cond.methodLink "WasteHouseLaw" (67 : Nat) ({ cls := "WasteHouseModel", name := "account", desc := "(I)J" } : Jvm.MethodName)) ∈ lw_all := lw_g (lw_at lw_m39 76 rfl) rfl
theorem q9589 : (Jvm.Cond.methodLink "WasteHouseLaw" (72 : Nat) ({ cls := "WasteHouseModel", name := "sound", desc := "()Z" } : Jvm.MethodName)) ∈ lw_all := lw_g (lw_at lw_m39 77 rfl) rfl
