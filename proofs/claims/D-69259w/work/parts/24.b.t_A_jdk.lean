theorem fl_J20_9 : aw_Fl "java/lang/String" 9 69 0 2 := ⟨aw_q69, "java/lang/String", rfl, by decide, q2924, Or.inl rfl, rfl⟩
theorem fl_J20_15 : aw_Fl "java/lang/String" 15 69 1 0 := ⟨aw_q69, "java/lang/String", rfl, by decide, q2925, Or.inl rfl, rfl⟩
theorem g_J20_isLatin1_ok {G : aw_G} {Mz : aw_M} {D D' : ga_D} {r : Int} {x0 : Int} (hS : aw_St Mz) (hP : ga_P D) (h : g_J20_isLatin1 x0 D = some (r, D')) : aw_Runs yJ20_isLatin1 cJ20_isLatin1 1 (some (.boolean)) 1 0 0 G [(2, x0)] (aw_wD Mz D) (aw_isP (some (0, r)) (aw_wD Mz D')) aw_no := by
  unfold g_J20_isLatin1 at h
  refine aw_body (own := "java/lang/String") (ini := false) (ls := [(0, (2, x0))]) rfl rfl (fun h => by cases h) (Nat.le_of_ble_eq_true rfl) rfl ?_
  generalize hQ : aw_isP (some (0, r)) (aw_wD Mz D') = Q
  have hq : ga_P D' → Q (some (0, r)) (aw_wD Mz D') := by rw [← hQ]; exact fun hP => ⟨rfl, rfl, hP⟩
  clear hQ
  refine x_gets (tg := 0) (z := 1) dJ20_isLatin1_0 q2869 (by decide +kernel) ?_
  refine x_if_eq (tgt := 17) dJ20_isLatin1_3 (by decide) (fun c3 => ?_) (fun c3 => ?_)
  · rw [if_pos c3] at h
    refine x_iconst dJ20_isLatin1_17 (by decide) ?_
    obtain ⟨rfl, rfl⟩ := ga_end h
    exact x_iret dJ20_isLatin1_18 rfl rfl (show (0 : Int) ≤ 0 ∧ (0 : Int) < 2 from by decide) (hq hP)
  · rw [if_neg c3] at h
    refine x_aload_n dJ20_isLatin1_6 rfl ?_
    replace h := ga_ck_some h; obtain ⟨hk7_0, h⟩ := h
    refine x_getf (v := D x0 1) dJ20_isLatin1_7 fl_J20_15 (aw_kS hS hk7_0 (by decide)) rfl ?_
    refine x_if_ne (tgt := 17) dJ20_isLatin1_10 (by decide) (fun c10 => ?_) (fun c10 => ?_)
    · rw [if_pos c10] at h
      refine x_iconst dJ20_isLatin1_17 (by decide) ?_
      obtain ⟨rfl, rfl⟩ := ga_end h
      exact x_iret dJ20_isLatin1_18 rfl rfl (show (0 : Int) ≤ 0 ∧ (0 : Int) < 2 from by decide) (hq hP)
    · rw [if_neg c10] at h
      refine x_iconst dJ20_isLatin1_13 (by decide) ?_
      refine x_goto (tgt := 18) dJ20_isLatin1_14 (by decide) ?_
      obtain ⟨rfl, rfl⟩ := ga_end h
      exact x_iret dJ20_isLatin1_18 rfl rfl (show (0 : Int) ≤ 1 ∧ (1 : Int) < 2 from by decide) (hq hP)
theorem g_J21_length_ok {G : aw_G} {Mz : aw_M} {D D' : ga_D} {r : Int} {x0 : Int} (hS : aw_St Mz) (hP : ga_P D) (h : g_J21_length x0 D = some (r, D')) : aw_Runs yJ21_length cJ21_length 1 (some (.int)) 1 0 0 G [(2, x0)] (aw_wD Mz D) (aw_isP (some (0, r)) (aw_wD Mz D')) aw_no := by
  unfold g_J21_length at h
  refine aw_body (own := "java/lang/StringUTF16") (ini := false) (ls := [(0, (2, x0))]) rfl rfl (fun h => by cases h) (Nat.le_of_ble_eq_true rfl) rfl ?_
  generalize hQ : aw_isP (some (0, r)) (aw_wD Mz D') = Q
  have hq : ga_P D' → Q (some (0, r)) (aw_wD Mz D') := by rw [← hQ]; exact fun hP => ⟨rfl, rfl, hP⟩
  clear hQ
  refine x_aload_n dJ21_length_0 rfl ?_
  replace h := ga_ck_some h; obtain ⟨ha1_0, h⟩ := h
  refine x_alen (t := 2) dJ21_length_1 (aw_kS hS (ga_kp ha1_0) (by decide)) rfl ?_
  refine x_iconst dJ21_length_2 (by decide) ?_
  refine x_ishr dJ21_length_3 rfl ?_
  obtain ⟨rfl, rfl⟩ := ga_end h
  exact x_iret dJ21_length_4 rfl rfl trivial (hq hP)
theorem g_J21_getChar_j28_ok {G : aw_G} {M0 Mz : aw_M} {D' : ga_D} {Q : Option aw_V → aw_M → Prop} {r : Int} (hS : aw_St Mz) (hq : ga_P D' → Q (some (0, r)) (aw_wD Mz D')) {x0 x1 : Int} {D : ga_D} (hP : ga_P D) (h : g_J21_getChar_j28 x0 x1 D = some (r, D')) : aw_W G "java/lang/StringUTF16" cJ21_getChar (some (.char)) 2 2 false M0 Q aw_no 0 0 28 [(0, (2, x0)), (1, (0, x1))] [] (aw_wD Mz D) := by
  unfold g_J21_getChar_j28 at h
  refine x_iload_n dJ21_getChar_28 rfl ?_
  refine x_iconst dJ21_getChar_29 (by decide) ?_
  refine x_ishl dJ21_getChar_30 rfl ?_
  replace h := ga_let_some h; obtain ⟨v31, ev31, h⟩ := h
  refine x_nm ev31 ?_
  refine x_istore_n (ls' := [(1, (0, v31)), (0, (2, x0))]) dJ21_getChar_31 (by decide) rfl ?_
  refine x_aload_n dJ21_getChar_32 rfl ?_
  refine x_iload_n dJ21_getChar_33 rfl ?_
  replace h := ga_let_some h; obtain ⟨v34, ev34, h⟩ := h
  refine x_iinc (ls' := [(1, (0, v34)), (0, (2, x0))]) dJ21_getChar_34 rfl ev34.symm (by decide) rfl ?_
  replace h := ga_ck_some h; obtain ⟨ha37_0, h⟩ := h
  replace h := ga_ck_some h; obtain ⟨ha37, h⟩ := h
  refine x_bald (v := D x0 v31) dJ21_getChar_37 (aw_kS hS (ga_kp ha37_0) (by decide)) ha37.1 ha37.2 rfl ?_
  refine x_sipush dJ21_getChar_38 (by decide) ?_
  refine x_iand dJ21_getChar_41 rfl ?_
  refine x_gets (tg := 0) (z := 0) dJ21_getChar_42 q2716 (by decide +kernel) ?_
  refine x_ishl dJ21_getChar_45 rfl ?_
  refine x_aload_n dJ21_getChar_46 rfl ?_
  refine x_iload_n dJ21_getChar_47 rfl ?_
  replace h := ga_ck_some h; obtain ⟨ha48, h⟩ := h
  refine x_bald (v := D x0 v34) dJ21_getChar_48 (aw_kS hS (ga_kp ha37_0) (by decide)) ha48.1 ha48.2 rfl ?_
  refine x_sipush dJ21_getChar_49 (by decide) ?_
  refine x_iand dJ21_getChar_52 rfl ?_
  refine x_gets (tg := 0) (z := 8) dJ21_getChar_53 q2718 (by decide +kernel) ?_
  refine x_ishl dJ21_getChar_56 rfl ?_
  refine x_ior dJ21_getChar_57 rfl ?_
  refine x_i2c dJ21_getChar_58 rfl ?_
  replace h := ga_ck_some h; obtain ⟨hr59, h⟩ := h
  obtain ⟨rfl, rfl⟩ := ga_end h
  exact x_iret dJ21_getChar_59 rfl rfl hr59 (hq hP)
theorem g_J21_getChar_j18_ok {G : aw_G} {M0 Mz : aw_M} {D' : ga_D} {Q : Option aw_V → aw_M → Prop} {r : Int} (hS : aw_St Mz) (hq : ga_P D' → Q (some (0, r)) (aw_wD Mz D')) {D : ga_D} (hP : ga_P D) (h : g_J21_getChar_j18 D = some (r, D')) : aw_W G "java/lang/StringUTF16" cJ21_getChar (some (.char)) 2 2 false M0 Q aw_no 0 0 18 [] [] (aw_wD Mz D) := by
  unfold g_J21_getChar_j18 at h
  exact absurd h (by intro h; cases h)
theorem g_J21_getChar_ok {G : aw_G} {Mz : aw_M} {D D' : ga_D} {r : Int} {x0 x1 : Int} (hS : aw_St Mz) (hP : ga_P D) (h : g_J21_getChar x0 x1 D = some (r, D')) : aw_Runs yJ21_getChar cJ21_getChar 2 (some (.char)) 2 0 0 G [(2, x0), (0, x1)] (aw_wD Mz D) (aw_isP (some (0, r)) (aw_wD Mz D')) aw_no := by
  unfold g_J21_getChar at h
  refine aw_body (own := "java/lang/StringUTF16") (ini := false) (ls := [(0, (2, x0)), (1, (0, x1))]) rfl rfl (fun h => by cases h) (Nat.le_of_ble_eq_true rfl) rfl ?_
  generalize hQ : aw_isP (some (0, r)) (aw_wD Mz D') = Q
  have hq : ga_P D' → Q (some (0, r)) (aw_wD Mz D') := by rw [← hQ]; exact fun hP => ⟨rfl, rfl, hP⟩
  clear hQ
  refine x_gets (tg := 0) (z := 1) dJ21_getChar_0 q2714 (by decide +kernel) ?_
  refine x_if_ne (tgt := 28) dJ21_getChar_3 (by decide) (fun c3 => ?_) (fun c3 => ?_)
  · rw [if_pos c3] at h
    refine g_J21_getChar_j28_ok hS hq hP h
  · rw [if_neg c3] at h
    refine x_iload_n dJ21_getChar_6 rfl ?_
    refine x_if_lt (tgt := 18) dJ21_getChar_7 (by decide) (fun c7 => ?_) (fun c7 => ?_)
    · rw [if_pos c7] at h
      refine x_locs [] (ls' := []) rfl ?_
      refine g_J21_getChar_j18_ok hS hq hP h
    · rw [if_neg c7] at h
      refine x_iload_n dJ21_getChar_10 rfl ?_
      refine x_aload_n dJ21_getChar_11 rfl ?_
      replace h := ga_bind_some h; obtain ⟨r12, D12, g12, h⟩ := h
      refine x_callS (c := 0) (sl := 0) (as := [(2, x0)]) (rest := [(0, x1)]) dJ21_getChar_12 (g_J21_length_ok hS hP g12) (lw_S q2700 q2701 q472 q2702) (show _ ∧ _ ∧ _ = some 1 from by decide +kernel) (by decide) (by decide) rfl (Nat.le_of_ble_eq_true rfl) ?_ aw_nox
      rintro _ _ ⟨rfl, rfl, hP12⟩ hx12
      refine x_icmp_lt (tgt := 28) dJ21_getChar_15 (by decide) (fun c15 => ?_) (fun c15 => ?_)
      · rw [if_pos c15] at h
        refine g_J21_getChar_j28_ok hS hq hP12 h
      · rw [if_neg c15] at h
        refine x_locs [] (ls' := []) rfl ?_
        refine g_J21_getChar_j18_ok hS hq hP12 h
theorem g_J20_coder_ok {G : aw_G} {Mz : aw_M} {D D' : ga_D} {r : Int} {x0 : Int} (hS : aw_St Mz) (hP : ga_P D) (h : g_J20_coder x0 D = some (r, D')) : aw_Runs yJ20_coder cJ20_coder 1 (some (.byte)) 1 0 0 G [(2, x0)] (aw_wD Mz D) (aw_isP (some (0, r)) (aw_wD Mz D')) aw_no := by
  unfold g_J20_coder at h
  refine aw_body (own := "java/lang/String") (ini := false) (ls := [(0, (2, x0))]) rfl rfl (fun h => by cases h) (Nat.le_of_ble_eq_true rfl) rfl ?_
  generalize hQ : aw_isP (some (0, r)) (aw_wD Mz D') = Q
  have hq : ga_P D' → Q (some (0, r)) (aw_wD Mz D') := by rw [← hQ]; exact fun hP => ⟨rfl, rfl, hP⟩
  clear hQ
  refine x_gets (tg := 0) (z := 1) dJ20_coder_0 q2869 (by decide +kernel) ?_
  refine x_if_eq (tgt := 13) dJ20_coder_3 (by decide) (fun c3 => ?_) (fun c3 => ?_)
  · rw [if_pos c3] at h
    refine x_iconst dJ20_coder_13 (by decide) ?_
    obtain ⟨rfl, rfl⟩ := ga_end h
    exact x_iret dJ20_coder_14 rfl rfl (show ((-128) : Int) ≤ 1 ∧ (1 : Int) < 128 from by decide) (hq hP)
  · rw [if_neg c3] at h
    refine x_aload_n dJ20_coder_6 rfl ?_
    replace h := ga_ck_some h; obtain ⟨hk7_0, h⟩ := h
    refine x_getf (v := D x0 1) dJ20_coder_7 fl_J20_15 (aw_kS hS hk7_0 (by decide)) rfl ?_
    refine x_goto (tgt := 14) dJ20_coder_10 (by decide) ?_
    replace h := ga_ck_some h; obtain ⟨hr14, h⟩ := h
    obtain ⟨rfl, rfl⟩ := ga_end h
    exact x_iret dJ20_coder_14 rfl rfl hr14 (hq hP)
theorem g_J20_length_ok {G : aw_G} {Mz : aw_M} {D D' : ga_D} {r : Int} {x0 : Int} (hS : aw_St Mz) (hP : ga_P D) (h : g_J20_length x0 D = some (r, D')) : aw_Runs yJ20_length cJ20_length 1 (some (.int)) 2 0 0 G [(2, x0)] (aw_wD Mz D) (aw_isP (some (0, r)) (aw_wD Mz D')) aw_no := by
  unfold g_J20_length at h
  refine aw_body (own := "java/lang/String") (ini := false) (ls := [(0, (2, x0))]) rfl rfl (fun h => by cases h) (Nat.le_of_ble_eq_true rfl) rfl ?_
  generalize hQ : aw_isP (some (0, r)) (aw_wD Mz D') = Q
  have hq : ga_P D' → Q (some (0, r)) (aw_wD Mz D') := by rw [← hQ]; exact fun hP => ⟨rfl, rfl, hP⟩
  clear hQ
  refine x_aload_n dJ20_length_0 rfl ?_
  replace h := ga_ck_some h; obtain ⟨hk1_0, h⟩ := h
  refine x_getf (v := D x0 0) dJ20_length_1 fl_J20_9 (aw_kS hS hk1_0 (by decide)) rfl ?_
  replace h := ga_ck_some h; obtain ⟨ha4_1, h⟩ := h
  refine x_alen (t := 2) dJ20_length_4 (aw_kS hS (ga_kp ha4_1) (by decide)) rfl ?_
  refine x_aload_n dJ20_length_5 rfl ?_
  replace h := ga_bind_some h; obtain ⟨r6, D6, g6, h⟩ := h
  refine x_callV (c := 0) (sl := 0) (as := []) (rest := [(0, (ga_K (D x0 0)).2)]) dJ20_length_6 (g_J20_coder_ok hS hP g6) (lw_V q2865 q2866 q2867 q471 q2868) (aw_kS hS hk1_0 (by decide)) rfl rfl (show _ ∧ _ ∧ _ ∧ _ = some 0 from by decide +kernel) (by decide) (by decide) rfl (Nat.le_of_ble_eq_true rfl) ?_ aw_nox
  rintro _ _ ⟨rfl, rfl, hP6⟩ hx6
  refine x_ishr dJ20_length_9 rfl ?_
  obtain ⟨rfl, rfl⟩ := ga_end h
  exact x_iret dJ20_length_10 rfl rfl trivial (hq hP6)
theorem g_J25_numberOfLeadingZeros_j61_ok {G : aw_G} {M0 Mz : aw_M} {D' : ga_D} {Q : Option aw_V → aw_M → Prop} {r : Int} (hS : aw_St Mz) (hq : ga_P D' → Q (some (0, r)) (aw_wD Mz D')) {x0 x1 : Int} {D : ga_D} (hP : ga_P D) (h : g_J25_numberOfLeadingZeros_j61 x0 x1 D = some (r, D')) : aw_W G "java/lang/Integer" cJ25_numberOfLeadingZeros (some (.int)) 2 1 false M0 Q aw_no 0 0 61 [(0, (0, x0)), (1, (0, x1))] [] (aw_wD Mz D) := by
  unfold g_J25_numberOfLeadingZeros_j61 at h
  refine x_iload_n dJ25_numberOfLeadingZeros_61 rfl ?_
  refine x_iconst dJ25_numberOfLeadingZeros_62 (by decide) ?_
  refine x_icmp_lt (tgt := 73) dJ25_numberOfLeadingZeros_63 (by decide) (fun c63 => ?_) (fun c63 => ?_)
  · rw [if_pos c63] at h
    refine x_iload_n dJ25_numberOfLeadingZeros_73 rfl ?_
    refine x_iload_n dJ25_numberOfLeadingZeros_74 rfl ?_
    refine x_iconst dJ25_numberOfLeadingZeros_75 (by decide) ?_
    refine x_iushr dJ25_numberOfLeadingZeros_76 rfl ?_
    refine x_isub dJ25_numberOfLeadingZeros_77 rfl ?_
    obtain ⟨rfl, rfl⟩ := ga_end h
    exact x_iret dJ25_numberOfLeadingZeros_78 rfl rfl trivial (hq hP)
  · rw [if_neg c63] at h
    replace h := ga_let_some h; obtain ⟨v66, ev66, h⟩ := h
    refine x_iinc (ls' := [(1, (0, v66)), (0, (0, x0))]) dJ25_numberOfLeadingZeros_66 rfl ev66.symm (by decide) rfl ?_
    refine x_iload_n dJ25_numberOfLeadingZeros_69 rfl ?_
    refine x_iconst dJ25_numberOfLeadingZeros_70 (by decide) ?_
    refine x_iushr dJ25_numberOfLeadingZeros_71 rfl ?_
    replace h := ga_let_some h; obtain ⟨v72, ev72, h⟩ := h
    refine x_nm ev72 ?_
    refine x_istore_n (ls' := [(0, (0, v72)), (1, (0, v66))]) dJ25_numberOfLeadingZeros_72 (by decide) rfl ?_
    refine x_iload_n dJ25_numberOfLeadingZeros_73 rfl ?_
    refine x_iload_n dJ25_numberOfLeadingZeros_74 rfl ?_
    refine x_iconst dJ25_numberOfLeadingZeros_75 (by decide) ?_
    refine x_iushr dJ25_numberOfLeadingZeros_76 rfl ?_
    refine x_isub dJ25_numberOfLeadingZeros_77 rfl ?_
    obtain ⟨rfl, rfl⟩ := ga_end h
    exact x_iret dJ25_numberOfLeadingZeros_78 rfl rfl trivial (hq hP)
theorem g_J25_numberOfLeadingZeros_j48_ok {G : aw_G} {M0 Mz : aw_M} {D' : ga_D} {Q : Option aw_V → aw_M → Prop} {r : Int} (hS : aw_St Mz) (hq : ga_P D' → Q (some (0, r)) (aw_wD Mz D')) {x0 x1 : Int} {D : ga_D} (hP : ga_P D) (h : g_J25_numberOfLeadingZeros_j48 x0 x1 D = some (r, D')) : aw_W G "java/lang/Integer" cJ25_numberOfLeadingZeros (some (.int)) 2 1 false M0 Q aw_no 0 0 48 [(0, (0, x0)), (1, (0, x1))] [] (aw_wD Mz D) := by
  unfold g_J25_numberOfLeadingZeros_j48 at h
  refine x_iload_n dJ25_numberOfLeadingZeros_48 rfl ?_
  refine x_bipush dJ25_numberOfLeadingZeros_49 (by decide) ?_
  refine x_icmp_lt (tgt := 61) dJ25_numberOfLeadingZeros_51 (by decide) (fun c51 => ?_) (fun c51 => ?_)
  · rw [if_pos c51] at h
    refine g_J25_numberOfLeadingZeros_j61_ok hS hq hP h
  · rw [if_neg c51] at h
    replace h := ga_let_some h; obtain ⟨v54, ev54, h⟩ := h
    refine x_iinc (ls' := [(1, (0, v54)), (0, (0, x0))]) dJ25_numberOfLeadingZeros_54 rfl ev54.symm (by decide) rfl ?_
    refine x_iload_n dJ25_numberOfLeadingZeros_57 rfl ?_
    refine x_iconst dJ25_numberOfLeadingZeros_58 (by decide) ?_
    refine x_iushr dJ25_numberOfLeadingZeros_59 rfl ?_
    replace h := ga_let_some h; obtain ⟨v60, ev60, h⟩ := h
    refine x_nm ev60 ?_
    refine x_istore_n (ls' := [(0, (0, v60)), (1, (0, v54))]) dJ25_numberOfLeadingZeros_60 (by decide) rfl ?_
    refine g_J25_numberOfLeadingZeros_j61_ok hS hq hP h
theorem g_J25_numberOfLeadingZeros_j33_ok {G : aw_G} {M0 Mz : aw_M} {D' : ga_D} {Q : Option aw_V → aw_M → Prop} {r : Int} (hS : aw_St Mz) (hq : ga_P D' → Q (some (0, r)) (aw_wD Mz D')) {x0 x1 : Int} {D : ga_D} (hP : ga_P D) (h : g_J25_numberOfLeadingZeros_j33 x0 x1 D = some (r, D')) : aw_W G "java/lang/Integer" cJ25_numberOfLeadingZeros (some (.int)) 2 1 false M0 Q aw_no 0 0 33 [(0, (0, x0)), (1, (0, x1))] [] (aw_wD Mz D) := by
  unfold g_J25_numberOfLeadingZeros_j33 at h
  refine x_iload_n dJ25_numberOfLeadingZeros_33 rfl ?_
  refine x_sipush dJ25_numberOfLeadingZeros_34 (by decide) ?_
  refine x_icmp_lt (tgt := 48) dJ25_numberOfLeadingZeros_37 (by decide) (fun c37 => ?_) (fun c37 => ?_)
  · rw [if_pos c37] at h
    refine g_J25_numberOfLeadingZeros_j48_ok hS hq hP h
  · rw [if_neg c37] at h
    replace h := ga_let_some h; obtain ⟨v40, ev40, h⟩ := h
    refine x_iinc (ls' := [(1, (0, v40)), (0, (0, x0))]) dJ25_numberOfLeadingZeros_40 rfl ev40.symm (by decide) rfl ?_
    refine x_iload_n dJ25_numberOfLeadingZeros_43 rfl ?_
    refine x_bipush dJ25_numberOfLeadingZeros_44 (by decide) ?_
    refine x_iushr dJ25_numberOfLeadingZeros_46 rfl ?_
    replace h := ga_let_some h; obtain ⟨v47, ev47, h⟩ := h
    refine x_nm ev47 ?_
    refine x_istore_n (ls' := [(0, (0, v47)), (1, (0, v40))]) dJ25_numberOfLeadingZeros_47 (by decide) rfl ?_
    refine g_J25_numberOfLeadingZeros_j48_ok hS hq hP h
theorem g_J25_numberOfLeadingZeros_ok {G : aw_G} {Mz : aw_M} {D D' : ga_D} {r : Int} {x0 : Int} (hS : aw_St Mz) (hP : ga_P D) (h : g_J25_numberOfLeadingZeros x0 D = some (r, D')) : aw_Runs yJ25_numberOfLeadingZeros cJ25_numberOfLeadingZeros 2 (some (.int)) 1 0 0 G [(0, x0)] (aw_wD Mz D) (aw_isP (some (0, r)) (aw_wD Mz D')) aw_no := by
  unfold g_J25_numberOfLeadingZeros at h
  refine aw_body (own := "java/lang/Integer") (ini := false) (ls := [(0, (0, x0))]) rfl rfl (fun h => by cases h) (Nat.le_of_ble_eq_true rfl) rfl ?_
  generalize hQ : aw_isP (some (0, r)) (aw_wD Mz D') = Q
  have hq : ga_P D' → Q (some (0, r)) (aw_wD Mz D') := by rw [← hQ]; exact fun hP => ⟨rfl, rfl, hP⟩
  clear hQ
  refine x_iload_n dJ25_numberOfLeadingZeros_0 rfl ?_
  refine x_if_gt (tgt := 15) dJ25_numberOfLeadingZeros_1 (by decide) (fun c1 => ?_) (fun c1 => ?_)
  · rw [if_pos c1] at h
    refine x_bipush dJ25_numberOfLeadingZeros_15 (by decide) ?_
    refine x_istore_n (ls' := [(1, (0, 31)), (0, (0, x0))]) dJ25_numberOfLeadingZeros_17 (by decide) rfl ?_
    refine x_iload_n dJ25_numberOfLeadingZeros_18 rfl ?_
    refine x_ldcw (z := 65536) dJ25_numberOfLeadingZeros_19 q3403 (by decide) ?_
    refine x_icmp_lt (tgt := 33) dJ25_numberOfLeadingZeros_22 (by decide) (fun c22 => ?_) (fun c22 => ?_)
    · rw [if_pos c22] at h
      refine x_locs [1, 0] (ls' := [(0, (0, x0)), (1, (0, 31))]) rfl ?_
      refine g_J25_numberOfLeadingZeros_j33_ok hS hq hP h
    · rw [if_neg c22] at h
      replace h := ga_let_some h; obtain ⟨v25, ev25, h⟩ := h
      refine x_iinc (ls' := [(1, (0, v25)), (0, (0, x0))]) dJ25_numberOfLeadingZeros_25 rfl ev25.symm (by decide) rfl ?_
      refine x_iload_n dJ25_numberOfLeadingZeros_28 rfl ?_
      refine x_bipush dJ25_numberOfLeadingZeros_29 (by decide) ?_
      refine x_iushr dJ25_numberOfLeadingZeros_31 rfl ?_
      replace h := ga_let_some h; obtain ⟨v32, ev32, h⟩ := h
      refine x_nm ev32 ?_
      refine x_istore_n (ls' := [(0, (0, v32)), (1, (0, v25))]) dJ25_numberOfLeadingZeros_32 (by decide) rfl ?_
      refine g_J25_numberOfLeadingZeros_j33_ok hS hq hP h
  · rw [if_neg c1] at h
    refine x_iload_n dJ25_numberOfLeadingZeros_4 rfl ?_
    refine x_if_ne (tgt := 13) dJ25_numberOfLeadingZeros_5 (by decide) (fun c5 => ?_) (fun c5 => ?_)
    · rw [if_pos c5] at h
      refine x_iconst dJ25_numberOfLeadingZeros_13 (by decide) ?_
      obtain ⟨rfl, rfl⟩ := ga_end h
      exact x_iret dJ25_numberOfLeadingZeros_14 rfl rfl trivial (hq hP)
    · rw [if_neg c5] at h
      refine x_bipush dJ25_numberOfLeadingZeros_8 (by decide) ?_
      refine x_goto (tgt := 14) dJ25_numberOfLeadingZeros_10 (by decide) ?_
      obtain ⟨rfl, rfl⟩ := ga_end h
      exact x_iret dJ25_numberOfLeadingZeros_14 rfl rfl trivial (hq hP)
theorem g_J25_numberOfTrailingZeros_j62_ok {G : aw_G} {M0 Mz : aw_M} {D' : ga_D} {Q : Option aw_V → aw_M → Prop} {r : Int} (hS : aw_St Mz) (hq : ga_P D' → Q (some (0, r)) (aw_wD Mz D')) {x0 x1 : Int} {D : ga_D} (hP : ga_P D) (h : g_J25_numberOfTrailingZeros_j62 x0 x1 D = some (r, D')) : aw_W G "java/lang/Integer" cJ25_numberOfTrailingZeros (some (.int)) 2 1 false M0 Q aw_no 0 0 62 [(0, (0, x0)), (1, (0, x1))] [] (aw_wD Mz D) := by
  unfold g_J25_numberOfTrailingZeros_j62 at h
  refine x_iload_n dJ25_numberOfTrailingZeros_62 rfl ?_
  refine x_iconst dJ25_numberOfTrailingZeros_63 (by decide) ?_
  refine x_icmp_le (tgt := 74) dJ25_numberOfTrailingZeros_64 (by decide) (fun c64 => ?_) (fun c64 => ?_)
  · rw [if_pos c64] at h
    refine x_iload_n dJ25_numberOfTrailingZeros_74 rfl ?_
    refine x_iload_n dJ25_numberOfTrailingZeros_75 rfl ?_
    refine x_iconst dJ25_numberOfTrailingZeros_76 (by decide) ?_
    refine x_iushr dJ25_numberOfTrailingZeros_77 rfl ?_
    refine x_iadd dJ25_numberOfTrailingZeros_78 rfl ?_
    obtain ⟨rfl, rfl⟩ := ga_end h
    exact x_iret dJ25_numberOfTrailingZeros_79 rfl rfl trivial (hq hP)
  · rw [if_neg c64] at h
    replace h := ga_let_some h; obtain ⟨v67, ev67, h⟩ := h
    refine x_iinc (ls' := [(1, (0, v67)), (0, (0, x0))]) dJ25_numberOfTrailingZeros_67 rfl ev67.symm (by decide) rfl ?_
    refine x_iload_n dJ25_numberOfTrailingZeros_70 rfl ?_
    refine x_iconst dJ25_numberOfTrailingZeros_71 (by decide) ?_
    refine x_iushr dJ25_numberOfTrailingZeros_72 rfl ?_
    replace h := ga_let_some h; obtain ⟨v73, ev73, h⟩ := h
    refine x_nm ev73 ?_
    refine x_istore_n (ls' := [(0, (0, v73)), (1, (0, v67))]) dJ25_numberOfTrailingZeros_73 (by decide) rfl ?_
    refine x_iload_n dJ25_numberOfTrailingZeros_74 rfl ?_
    refine x_iload_n dJ25_numberOfTrailingZeros_75 rfl ?_
    refine x_iconst dJ25_numberOfTrailingZeros_76 (by decide) ?_
    refine x_iushr dJ25_numberOfTrailingZeros_77 rfl ?_
    refine x_iadd dJ25_numberOfTrailingZeros_78 rfl ?_
    obtain ⟨rfl, rfl⟩ := ga_end h
    exact x_iret dJ25_numberOfTrailingZeros_79 rfl rfl trivial (hq hP)
theorem g_J25_numberOfTrailingZeros_j49_ok {G : aw_G} {M0 Mz : aw_M} {D' : ga_D} {Q : Option aw_V → aw_M → Prop} {r : Int} (hS : aw_St Mz) (hq : ga_P D' → Q (some (0, r)) (aw_wD Mz D')) {x0 x1 : Int} {D : ga_D} (hP : ga_P D) (h : g_J25_numberOfTrailingZeros_j49 x0 x1 D = some (r, D')) : aw_W G "java/lang/Integer" cJ25_numberOfTrailingZeros (some (.int)) 2 1 false M0 Q aw_no 0 0 49 [(0, (0, x0)), (1, (0, x1))] [] (aw_wD Mz D) := by
  unfold g_J25_numberOfTrailingZeros_j49 at h
  refine x_iload_n dJ25_numberOfTrailingZeros_49 rfl ?_
  refine x_bipush dJ25_numberOfTrailingZeros_50 (by decide) ?_
  refine x_icmp_le (tgt := 62) dJ25_numberOfTrailingZeros_52 (by decide) (fun c52 => ?_) (fun c52 => ?_)
  · rw [if_pos c52] at h
    refine g_J25_numberOfTrailingZeros_j62_ok hS hq hP h
  · rw [if_neg c52] at h
    replace h := ga_let_some h; obtain ⟨v55, ev55, h⟩ := h
    refine x_iinc (ls' := [(1, (0, v55)), (0, (0, x0))]) dJ25_numberOfTrailingZeros_55 rfl ev55.symm (by decide) rfl ?_
    refine x_iload_n dJ25_numberOfTrailingZeros_58 rfl ?_
    refine x_iconst dJ25_numberOfTrailingZeros_59 (by decide) ?_
    refine x_iushr dJ25_numberOfTrailingZeros_60 rfl ?_
    replace h := ga_let_some h; obtain ⟨v61, ev61, h⟩ := h
    refine x_nm ev61 ?_
    refine x_istore_n (ls' := [(0, (0, v61)), (1, (0, v55))]) dJ25_numberOfTrailingZeros_61 (by decide) rfl ?_
    refine g_J25_numberOfTrailingZeros_j62_ok hS hq hP h
theorem g_J25_numberOfTrailingZeros_j34_ok {G : aw_G} {M0 Mz : aw_M} {D' : ga_D} {Q : Option aw_V → aw_M → Prop} {r : Int} (hS : aw_St Mz) (hq : ga_P D' → Q (some (0, r)) (aw_wD Mz D')) {x0 x1 : Int} {D : ga_D} (hP : ga_P D) (h : g_J25_numberOfTrailingZeros_j34 x0 x1 D = some (r, D')) : aw_W G "java/lang/Integer" cJ25_numberOfTrailingZeros (some (.int)) 2 1 false M0 Q aw_no 0 0 34 [(0, (0, x0)), (1, (0, x1))] [] (aw_wD Mz D) := by
  unfold g_J25_numberOfTrailingZeros_j34 at h
  refine x_iload_n dJ25_numberOfTrailingZeros_34 rfl ?_
  refine x_sipush dJ25_numberOfTrailingZeros_35 (by decide) ?_
  refine x_icmp_le (tgt := 49) dJ25_numberOfTrailingZeros_38 (by decide) (fun c38 => ?_) (fun c38 => ?_)
  · rw [if_pos c38] at h
    refine g_J25_numberOfTrailingZeros_j49_ok hS hq hP h
  · rw [if_neg c38] at h
    replace h := ga_let_some h; obtain ⟨v41, ev41, h⟩ := h
    refine x_iinc (ls' := [(1, (0, v41)), (0, (0, x0))]) dJ25_numberOfTrailingZeros_41 rfl ev41.symm (by decide) rfl ?_
    refine x_iload_n dJ25_numberOfTrailingZeros_44 rfl ?_
    refine x_bipush dJ25_numberOfTrailingZeros_45 (by decide) ?_
    refine x_iushr dJ25_numberOfTrailingZeros_47 rfl ?_
    replace h := ga_let_some h; obtain ⟨v48, ev48, h⟩ := h
    refine x_nm ev48 ?_
    refine x_istore_n (ls' := [(0, (0, v48)), (1, (0, v41))]) dJ25_numberOfTrailingZeros_48 (by decide) rfl ?_
    refine g_J25_numberOfTrailingZeros_j49_ok hS hq hP h
theorem g_J25_numberOfTrailingZeros_ok {G : aw_G} {Mz : aw_M} {D D' : ga_D} {r : Int} {x0 : Int} (hS : aw_St Mz) (hP : ga_P D) (h : g_J25_numberOfTrailingZeros x0 D = some (r, D')) : aw_Runs yJ25_numberOfTrailingZeros cJ25_numberOfTrailingZeros 2 (some (.int)) 1 0 0 G [(0, x0)] (aw_wD Mz D) (aw_isP (some (0, r)) (aw_wD Mz D')) aw_no := by
  unfold g_J25_numberOfTrailingZeros at h
  refine aw_body (own := "java/lang/Integer") (ini := false) (ls := [(0, (0, x0))]) rfl rfl (fun h => by cases h) (Nat.le_of_ble_eq_true rfl) rfl ?_
  generalize hQ : aw_isP (some (0, r)) (aw_wD Mz D') = Q
  have hq : ga_P D' → Q (some (0, r)) (aw_wD Mz D') := by rw [← hQ]; exact fun hP => ⟨rfl, rfl, hP⟩
  clear hQ
  refine x_iload_n dJ25_numberOfTrailingZeros_0 rfl ?_
  refine x_iconst dJ25_numberOfTrailingZeros_1 (by decide) ?_
  refine x_ixor dJ25_numberOfTrailingZeros_2 rfl ?_
  refine x_iload_n dJ25_numberOfTrailingZeros_3 rfl ?_
  refine x_iconst dJ25_numberOfTrailingZeros_4 (by decide) ?_
  refine x_isub dJ25_numberOfTrailingZeros_5 rfl ?_
  refine x_iand dJ25_numberOfTrailingZeros_6 rfl ?_
  replace h := ga_let_some h; obtain ⟨v7, ev7, h⟩ := h
  refine x_nm ev7 ?_
  refine x_istore_n (ls' := [(0, (0, v7))]) dJ25_numberOfTrailingZeros_7 (by decide) rfl ?_
  refine x_iload_n dJ25_numberOfTrailingZeros_8 rfl ?_
  refine x_if_gt (tgt := 17) dJ25_numberOfTrailingZeros_9 (by decide) (fun c9 => ?_) (fun c9 => ?_)
  · rw [if_pos c9] at h
    refine x_iconst dJ25_numberOfTrailingZeros_17 (by decide) ?_
    refine x_istore_n (ls' := [(1, (0, 1)), (0, (0, v7))]) dJ25_numberOfTrailingZeros_18 (by decide) rfl ?_
    refine x_iload_n dJ25_numberOfTrailingZeros_19 rfl ?_
    refine x_ldcw (z := 65536) dJ25_numberOfTrailingZeros_20 q3403 (by decide) ?_
    refine x_icmp_le (tgt := 34) dJ25_numberOfTrailingZeros_23 (by decide) (fun c23 => ?_) (fun c23 => ?_)
    · rw [if_pos c23] at h
      refine x_locs [1, 0] (ls' := [(0, (0, v7)), (1, (0, 1))]) rfl ?_
      refine g_J25_numberOfTrailingZeros_j34_ok hS hq hP h
    · rw [if_neg c23] at h
      replace h := ga_let_some h; obtain ⟨v26, ev26, h⟩ := h
      refine x_iinc (ls' := [(1, (0, v26)), (0, (0, v7))]) dJ25_numberOfTrailingZeros_26 rfl ev26.symm (by decide) rfl ?_
      refine x_iload_n dJ25_numberOfTrailingZeros_29 rfl ?_
      refine x_bipush dJ25_numberOfTrailingZeros_30 (by decide) ?_
      refine x_iushr dJ25_numberOfTrailingZeros_32 rfl ?_
      replace h := ga_let_some h; obtain ⟨v33, ev33, h⟩ := h
      refine x_nm ev33 ?_
      refine x_istore_n (ls' := [(0, (0, v33)), (1, (0, v26))]) dJ25_numberOfTrailingZeros_33 (by decide) rfl ?_
      refine g_J25_numberOfTrailingZeros_j34_ok hS hq hP h
  · rw [if_neg c9] at h
    refine x_iload_n dJ25_numberOfTrailingZeros_12 rfl ?_
    refine x_bipush dJ25_numberOfTrailingZeros_13 (by decide) ?_
    refine x_iand dJ25_numberOfTrailingZeros_15 rfl ?_
    obtain ⟨rfl, rfl⟩ := ga_end h
    exact x_iret dJ25_numberOfTrailingZeros_16 rfl rfl trivial (hq hP)
theorem g_J23_checkIndex_j9_ok {G : aw_G} {M0 Mz : aw_M} {D' : ga_D} {Q : Option aw_V → aw_M → Prop} {r : Int} (hS : aw_St Mz) (hq : ga_P D' → Q (some (0, r)) (aw_wD Mz D')) {x0 x1 x2 : Int} {D : ga_D} (hP : ga_P D) (h : g_J23_checkIndex_j9 x0 x1 x2 D = some (r, D')) : aw_W G "jdk/internal/util/Preconditions" cJ23_checkIndex (some (.int)) 3 1 false M0 Q aw_no 0 0 9 [(0, (0, x0)), (1, (0, x1)), (2, (2, x2))] [] (aw_wD Mz D) := by
  unfold g_J23_checkIndex_j9 at h
  refine x_aload_n dJ23_checkIndex_9 rfl ?_
  refine x_iload_n dJ23_checkIndex_10 rfl ?_
  refine x_iload_n dJ23_checkIndex_11 rfl ?_
  exact absurd h (by intro h; cases h)
theorem g_J23_checkIndex_ok {G : aw_G} {Mz : aw_M} {D D' : ga_D} {r : Int} {x0 x1 x2 : Int} (hS : aw_St Mz) (hP : ga_P D) (h : g_J23_checkIndex x0 x1 x2 D = some (r, D')) : aw_Runs yJ23_checkIndex cJ23_checkIndex 3 (some (.int)) 1 0 0 G [(0, x0), (0, x1), (2, x2)] (aw_wD Mz D) (aw_isP (some (0, r)) (aw_wD Mz D')) aw_no := by
  unfold g_J23_checkIndex at h
  refine aw_body (own := "jdk/internal/util/Preconditions") (ini := false) (ls := [(0, (0, x0)), (1, (0, x1)), (2, (2, x2))]) rfl rfl (fun h => by cases h) (Nat.le_of_ble_eq_true rfl) rfl ?_
  generalize hQ : aw_isP (some (0, r)) (aw_wD Mz D') = Q
  have hq : ga_P D' → Q (some (0, r)) (aw_wD Mz D') := by rw [← hQ]; exact fun hP => ⟨rfl, rfl, hP⟩
  clear hQ
  refine x_iload_n dJ23_checkIndex_0 rfl ?_
  refine x_if_lt (tgt := 9) dJ23_checkIndex_1 (by decide) (fun c1 => ?_) (fun c1 => ?_)
  · rw [if_pos c1] at h
    refine g_J23_checkIndex_j9_ok hS hq hP h
  · rw [if_neg c1] at h
    refine x_iload_n dJ23_checkIndex_4 rfl ?_
    refine x_iload_n dJ23_checkIndex_5 rfl ?_
    refine x_icmp_lt (tgt := 16) dJ23_checkIndex_6 (by decide) (fun c6 => ?_) (fun c6 => ?_)
    · rw [if_pos c6] at h
      refine x_iload_n dJ23_checkIndex_16 rfl ?_
      obtain ⟨rfl, rfl⟩ := ga_end h
      exact x_iret dJ23_checkIndex_17 rfl rfl trivial (hq hP)
    · rw [if_neg c6] at h
      refine g_J23_checkIndex_j9_ok hS hq hP h
theorem g_J23_some {x0 x1 x2 r : Int} {D D' : ga_D} (h : g_J23_checkIndex x0 x1 x2 D = some (r, D')) : 0 ≤ x0 ∧ x0 < x1 ∧ r = x0 ∧ D' = D := by
  unfold g_J23_checkIndex at h
  by_cases e : x0 < 0
  · rw [if_pos e] at h; cases h
  · rw [if_neg e] at h
    by_cases e2 : x0 < x1
    · rw [if_pos e2] at h
      obtain ⟨rfl, rfl⟩ := ga_end h
      exact ⟨by omega, e2, rfl, rfl⟩
    · rw [if_neg e2] at h; cases h
theorem g_J20_checkIndex_ok {G : aw_G} {Mz : aw_M} {D D' : ga_D} {r : Int} {x0 x1 : Int} (hS : aw_St Mz) (hP : ga_P D) (h : g_J20_checkIndex x0 x1 D = some (r, D')) : aw_Runs yJ20_checkIndex cJ20_checkIndex 2 none 2 0 0 G [(0, x0), (0, x1)] (aw_wD Mz D) (aw_isP none (aw_wD Mz D')) aw_no := by
  unfold g_J20_checkIndex at h
  refine aw_body (own := "java/lang/String") (ini := false) (ls := [(0, (0, x0)), (1, (0, x1))]) rfl rfl (fun h => by cases h) (Nat.le_of_ble_eq_true rfl) rfl ?_
  generalize hQ : aw_isP none (aw_wD Mz D') = Q
  have hq : ga_P D' → Q none (aw_wD Mz D') := by rw [← hQ]; exact fun hP => ⟨rfl, rfl, hP⟩
  clear hQ
  refine x_iload_n dJ20_checkIndex_0 rfl ?_
  refine x_iload_n dJ20_checkIndex_1 rfl ?_
  refine x_getSF dJ20_checkIndex_2 q2706 (fun v9 hv9 => ?_)
  replace h := ga_bind_some h; obtain ⟨r5, D5, g5, h⟩ := h
  obtain ⟨j0, j1, -, rfl⟩ := g_J23_some g5
  refine x_callS (c := 0) (sl := 0) (as := [(0, x0), (0, x1), v9]) (rest := []) dJ20_checkIndex_5 (go_J23 hv9 j0 j1) (lw_S q2729 q2730 q474 q2731) (show _ ∧ _ ∧ _ = some 3 from by decide +kernel) (by decide) (by decide) rfl (Nat.le_of_ble_eq_true rfl) ?_ aw_nox
  rintro _ _ ⟨rfl, rfl⟩ hx5
  refine x_pop dJ20_checkIndex_8 rfl ?_
  obtain ⟨rfl, rfl⟩ := ga_end h
  exact x_vret dJ20_checkIndex_9 rfl (hq hP)
theorem g_J21_checkIndex_ok {G : aw_G} {Mz : aw_M} {D D' : ga_D} {r : Int} {x0 x1 : Int} (hS : aw_St Mz) (hP : ga_P D) (h : g_J21_checkIndex x0 x1 D = some (r, D')) : aw_Runs yJ21_checkIndex cJ21_checkIndex 2 none 3 0 0 G [(0, x0), (2, x1)] (aw_wD Mz D) (aw_isP none (aw_wD Mz D')) aw_no := by
  unfold g_J21_checkIndex at h
  refine aw_body (own := "java/lang/StringUTF16") (ini := false) (ls := [(0, (0, x0)), (1, (2, x1))]) rfl rfl (fun h => by cases h) (Nat.le_of_ble_eq_true rfl) rfl ?_
  generalize hQ : aw_isP none (aw_wD Mz D') = Q
  have hq : ga_P D' → Q none (aw_wD Mz D') := by rw [← hQ]; exact fun hP => ⟨rfl, rfl, hP⟩
  clear hQ
  refine x_iload_n dJ21_checkIndex_0 rfl ?_
  refine x_aload_n dJ21_checkIndex_1 rfl ?_
  replace h := ga_bind_some h; obtain ⟨r2, D2, g2, h⟩ := h
  refine x_callS (c := 0) (sl := 0) (as := [(2, x1)]) (rest := [(0, x0)]) dJ21_checkIndex_2 (g_J21_length_ok hS hP g2) (lw_S q2700 q2701 q472 q2702) (show _ ∧ _ ∧ _ = some 1 from by decide +kernel) (by decide) (by decide) rfl (Nat.le_of_ble_eq_true rfl) ?_ aw_nox
  rintro _ _ ⟨rfl, rfl, hP2⟩ hx2
  replace h := ga_bind_some h; obtain ⟨r5, D5, g5, h⟩ := h
  refine x_callS (c := 0) (sl := 0) (as := [(0, x0), (0, r2)]) (rest := []) dJ21_checkIndex_5 (g_J20_checkIndex_ok hS hP2 g5) (lw_S q2726 q2727 q471 q2728) (show _ ∧ _ ∧ _ = some 2 from by decide +kernel) (by decide) (by decide) rfl (Nat.le_of_ble_eq_true rfl) ?_ aw_nox
  rintro _ _ ⟨rfl, rfl, hP5⟩ hx5
  obtain ⟨rfl, rfl⟩ := ga_end h
  exact x_vret dJ21_checkIndex_8 rfl (hq hP5)
theorem g_J22_charAt_ok {G : aw_G} {Mz : aw_M} {D D' : ga_D} {r : Int} {x0 x1 : Int} (hS : aw_St Mz) (hP : ga_P D) (h : g_J22_charAt x0 x1 D = some (r, D')) : aw_Runs yJ22_charAt cJ22_charAt 2 (some (.char)) 3 0 0 G [(2, x0), (0, x1)] (aw_wD Mz D) (aw_isP (some (0, r)) (aw_wD Mz D')) aw_no := by
  unfold g_J22_charAt at h
  refine aw_body (own := "java/lang/StringLatin1") (ini := false) (ls := [(0, (2, x0)), (1, (0, x1))]) rfl rfl (fun h => by cases h) (Nat.le_of_ble_eq_true rfl) rfl ?_
  generalize hQ : aw_isP (some (0, r)) (aw_wD Mz D') = Q
  have hq : ga_P D' → Q (some (0, r)) (aw_wD Mz D') := by rw [← hQ]; exact fun hP => ⟨rfl, rfl, hP⟩
  clear hQ
  refine x_iload_n dJ22_charAt_0 rfl ?_
  refine x_aload_n dJ22_charAt_1 rfl ?_
  replace h := ga_ck_some h; obtain ⟨ha2_0, h⟩ := h
  refine x_alen (t := 2) dJ22_charAt_2 (aw_kS hS (ga_kp ha2_0) (by decide)) rfl ?_
  replace h := ga_bind_some h; obtain ⟨r3, D3, g3, h⟩ := h
  refine x_callS (c := 0) (sl := 0) (as := [(0, x1), (0, (ga_K x0).2)]) (rest := []) dJ22_charAt_3 (g_J20_checkIndex_ok hS hP g3) (lw_S q3221 q2727 q471 q2728) (show _ ∧ _ ∧ _ = some 2 from by decide +kernel) (by decide) (by decide) rfl (Nat.le_of_ble_eq_true rfl) ?_ aw_nox
  rintro _ _ ⟨rfl, rfl, hP3⟩ hx3
  refine x_aload_n dJ22_charAt_6 rfl ?_
  refine x_iload_n dJ22_charAt_7 rfl ?_
  replace h := ga_ck_some h; obtain ⟨ha8, h⟩ := h
  refine x_bald (v := D3 x0 x1) dJ22_charAt_8 (aw_kS hS (ga_kp ha2_0) (by decide)) ha8.1 ha8.2 rfl ?_
  refine x_sipush dJ22_charAt_9 (by decide) ?_
  refine x_iand dJ22_charAt_12 rfl ?_
  refine x_i2c dJ22_charAt_13 rfl ?_
  replace h := ga_ck_some h; obtain ⟨hr14, h⟩ := h
  obtain ⟨rfl, rfl⟩ := ga_end h
  exact x_iret dJ22_charAt_14 rfl rfl hr14 (hq hP3)
theorem g_J21_charAt_ok {G : aw_G} {Mz : aw_M} {D D' : ga_D} {r : Int} {x0 x1 : Int} (hS : aw_St Mz) (hP : ga_P D) (h : g_J21_charAt x0 x1 D = some (r, D')) : aw_Runs yJ21_charAt cJ21_charAt 2 (some (.char)) 4 0 0 G [(2, x0), (0, x1)] (aw_wD Mz D) (aw_isP (some (0, r)) (aw_wD Mz D')) aw_no := by
  unfold g_J21_charAt at h
  refine aw_body (own := "java/lang/StringUTF16") (ini := false) (ls := [(0, (2, x0)), (1, (0, x1))]) rfl rfl (fun h => by cases h) (Nat.le_of_ble_eq_true rfl) rfl ?_
  generalize hQ : aw_isP (some (0, r)) (aw_wD Mz D') = Q
  have hq : ga_P D' → Q (some (0, r)) (aw_wD Mz D') := by rw [← hQ]; exact fun hP => ⟨rfl, rfl, hP⟩
  clear hQ
  refine x_iload_n dJ21_charAt_0 rfl ?_
  refine x_aload_n dJ21_charAt_1 rfl ?_
  replace h := ga_bind_some h; obtain ⟨r2, D2, g2, h⟩ := h
  refine x_callS (c := 0) (sl := 0) (as := [(0, x1), (2, x0)]) (rest := []) dJ21_charAt_2 (g_J21_checkIndex_ok hS hP g2) (lw_S q2723 q2724 q472 q2725) (show _ ∧ _ ∧ _ = some 2 from by decide +kernel) (by decide) (by decide) rfl (Nat.le_of_ble_eq_true rfl) ?_ aw_nox
  rintro _ _ ⟨rfl, rfl, hP2⟩ hx2
  refine x_aload_n dJ21_charAt_5 rfl ?_
  refine x_iload_n dJ21_charAt_6 rfl ?_
  replace h := ga_bind_some h; obtain ⟨r7, D7, g7, h⟩ := h
  refine x_callS (c := 0) (sl := 0) (as := [(2, x0), (0, x1)]) (rest := []) dJ21_charAt_7 (g_J21_getChar_ok hS hP2 g7) (lw_S q2917 q2918 q472 q2919) (show _ ∧ _ ∧ _ = some 2 from by decide +kernel) (by decide) (by decide) rfl (Nat.le_of_ble_eq_true rfl) ?_ aw_nox
  rintro _ _ ⟨rfl, rfl, hP7⟩ hx7
  replace h := ga_ck_some h; obtain ⟨hr10, h⟩ := h
  obtain ⟨rfl, rfl⟩ := ga_end h
  exact x_iret dJ21_charAt_10 rfl rfl hr10 (hq hP7)
theorem g_J20_charAt_ok {G : aw_G} {Mz : aw_M} {D D' : ga_D} {r : Int} {x0 x1 : Int} (hS : aw_St Mz) (hP : ga_P D) (h : g_J20_charAt x0 x1 D = some (r, D')) : aw_Runs yJ20_charAt cJ20_charAt 2 (some (.char)) 5 0 0 G [(2, x0), (0, x1)] (aw_wD Mz D) (aw_isP (some (0, r)) (aw_wD Mz D')) aw_no := by
  unfold g_J20_charAt at h
  refine aw_body (own := "java/lang/String") (ini := false) (ls := [(0, (2, x0)), (1, (0, x1))]) rfl rfl (fun h => by cases h) (Nat.le_of_ble_eq_true rfl) rfl ?_
  generalize hQ : aw_isP (some (0, r)) (aw_wD Mz D') = Q
  have hq : ga_P D' → Q (some (0, r)) (aw_wD Mz D') := by rw [← hQ]; exact fun hP => ⟨rfl, rfl, hP⟩
  clear hQ
  refine x_aload_n dJ20_charAt_0 rfl ?_
  replace h := ga_bind_some h; obtain ⟨r1, D1, g1, h⟩ := h
  replace h := ga_ck_some h; obtain ⟨hk1_0, h⟩ := h
  refine x_callV (c := 0) (sl := 0) (as := []) (rest := []) dJ20_charAt_1 (g_J20_isLatin1_ok hS hP g1) (lw_V q3214 q3215 q3216 q471 q3217) (aw_kS hS hk1_0 (by decide)) rfl rfl (show _ ∧ _ ∧ _ ∧ _ = some 0 from by decide +kernel) (by decide) (by decide) rfl (Nat.le_of_ble_eq_true rfl) ?_ aw_nox
  rintro _ _ ⟨rfl, rfl, hP1⟩ hx1
  refine x_if_eq (tgt := 16) dJ20_charAt_4 (by decide) (fun c4 => ?_) (fun c4 => ?_)
  · rw [if_pos c4] at h
    refine x_aload_n dJ20_charAt_16 rfl ?_
    refine x_getf (v := D1 x0 0) dJ20_charAt_17 fl_J20_9 (aw_kS hS hk1_0 (by decide)) rfl ?_
    refine x_iload_n dJ20_charAt_20 rfl ?_
    replace h := ga_bind_some h; obtain ⟨r21, D21, g21, h⟩ := h
    refine x_callS (c := 0) (sl := 0) (as := [(2, D1 x0 0), (0, x1)]) (rest := []) dJ20_charAt_21 (g_J21_charAt_ok hS hP1 g21) (lw_S q3222 q3223 q472 q3224) (show _ ∧ _ ∧ _ = some 2 from by decide +kernel) (by decide) (by decide) rfl (Nat.le_of_ble_eq_true rfl) ?_ aw_nox
    rintro _ _ ⟨rfl, rfl, hP21⟩ hx21
    replace h := ga_ck_some h; obtain ⟨hr24, h⟩ := h
    obtain ⟨rfl, rfl⟩ := ga_end h
    exact x_iret dJ20_charAt_24 rfl rfl hr24 (hq hP21)
  · rw [if_neg c4] at h
    refine x_aload_n dJ20_charAt_7 rfl ?_
    refine x_getf (v := D1 x0 0) dJ20_charAt_8 fl_J20_9 (aw_kS hS hk1_0 (by decide)) rfl ?_
    refine x_iload_n dJ20_charAt_11 rfl ?_
    replace h := ga_bind_some h; obtain ⟨r12, D12, g12, h⟩ := h
    refine x_callS (c := 0) (sl := 0) (as := [(2, D1 x0 0), (0, x1)]) (rest := []) dJ20_charAt_12 (g_J22_charAt_ok hS hP1 g12) (lw_S q3218 q3219 q473 q3220) (show _ ∧ _ ∧ _ = some 2 from by decide +kernel) (by decide) (by decide) rfl (Nat.le_of_ble_eq_true rfl) ?_ aw_nox
    rintro _ _ ⟨rfl, rfl, hP12⟩ hx12
    replace h := ga_ck_some h; obtain ⟨hr15, h⟩ := h
    obtain ⟨rfl, rfl⟩ := ga_end h
    exact x_iret dJ20_charAt_15 rfl rfl hr15 (hq hP12)
theorem g_J25_rotateRight_ok {G : aw_G} {Mz : aw_M} {D D' : ga_D} {r : Int} {x0 x1 : Int} (hS : aw_St Mz) (hP : ga_P D) (h : g_J25_rotateRight x0 x1 D = some (r, D')) : aw_Runs yJ25_rotateRight cJ25_rotateRight 2 (some (.int)) 1 0 0 G [(0, x0), (0, x1)] (aw_wD Mz D) (aw_isP (some (0, r)) (aw_wD Mz D')) aw_no := by
  unfold g_J25_rotateRight at h
  refine aw_body (own := "java/lang/Integer") (ini := false) (ls := [(0, (0, x0)), (1, (0, x1))]) rfl rfl (fun h => by cases h) (Nat.le_of_ble_eq_true rfl) rfl ?_
  generalize hQ : aw_isP (some (0, r)) (aw_wD Mz D') = Q
  have hq : ga_P D' → Q (some (0, r)) (aw_wD Mz D') := by rw [← hQ]; exact fun hP => ⟨rfl, rfl, hP⟩
  clear hQ
  refine x_iload_n dJ25_rotateRight_0 rfl ?_
  refine x_iload_n dJ25_rotateRight_1 rfl ?_
  refine x_iushr dJ25_rotateRight_2 rfl ?_
  refine x_iload_n dJ25_rotateRight_3 rfl ?_
  refine x_iload_n dJ25_rotateRight_4 rfl ?_
  refine x_ineg dJ25_rotateRight_5 rfl ?_
  refine x_ishl dJ25_rotateRight_6 rfl ?_
  refine x_ior dJ25_rotateRight_7 rfl ?_
  obtain ⟨rfl, rfl⟩ := ga_end h
  exact x_iret dJ25_rotateRight_8 rfl rfl trivial (hq hP)
theorem g_J25_bitCount_ok {G : aw_G} {Mz : aw_M} {D D' : ga_D} {r : Int} {x0 : Int} (hS : aw_St Mz) (hP : ga_P D) (h : g_J25_bitCount x0 D = some (r, D')) : aw_Runs yJ25_bitCount cJ25_bitCount 1 (some (.int)) 1 0 0 G [(0, x0)] (aw_wD Mz D) (aw_isP (some (0, r)) (aw_wD Mz D')) aw_no := by
  unfold g_J25_bitCount at h
  refine aw_body (own := "java/lang/Integer") (ini := false) (ls := [(0, (0, x0))]) rfl rfl (fun h => by cases h) (Nat.le_of_ble_eq_true rfl) rfl ?_
  generalize hQ : aw_isP (some (0, r)) (aw_wD Mz D') = Q
  have hq : ga_P D' → Q (some (0, r)) (aw_wD Mz D') := by rw [← hQ]; exact fun hP => ⟨rfl, rfl, hP⟩
  clear hQ
  refine x_iload_n dJ25_bitCount_0 rfl ?_
  refine x_iload_n dJ25_bitCount_1 rfl ?_
  refine x_iconst dJ25_bitCount_2 (by decide) ?_
  refine x_iushr dJ25_bitCount_3 rfl ?_
  refine x_ldcw (z := 1431655765) dJ25_bitCount_4 q5963 (by decide) ?_
  refine x_iand dJ25_bitCount_7 rfl ?_
  refine x_isub dJ25_bitCount_8 rfl ?_
  replace h := ga_let_some h; obtain ⟨v9, ev9, h⟩ := h
  refine x_nm ev9 ?_
  refine x_istore_n (ls' := [(0, (0, v9))]) dJ25_bitCount_9 (by decide) rfl ?_
  refine x_iload_n dJ25_bitCount_10 rfl ?_
  refine x_ldcw (z := 858993459) dJ25_bitCount_11 q5964 (by decide) ?_
  refine x_iand dJ25_bitCount_14 rfl ?_
  refine x_iload_n dJ25_bitCount_15 rfl ?_
  refine x_iconst dJ25_bitCount_16 (by decide) ?_
  refine x_iushr dJ25_bitCount_17 rfl ?_
  refine x_ldcw (z := 858993459) dJ25_bitCount_18 q5964 (by decide) ?_
  refine x_iand dJ25_bitCount_21 rfl ?_
  refine x_iadd dJ25_bitCount_22 rfl ?_
  replace h := ga_let_some h; obtain ⟨v23, ev23, h⟩ := h
  refine x_nm ev23 ?_
  refine x_istore_n (ls' := [(0, (0, v23))]) dJ25_bitCount_23 (by decide) rfl ?_
  refine x_iload_n dJ25_bitCount_24 rfl ?_
  refine x_iload_n dJ25_bitCount_25 rfl ?_
  refine x_iconst dJ25_bitCount_26 (by decide) ?_
  refine x_iushr dJ25_bitCount_27 rfl ?_
  refine x_iadd dJ25_bitCount_28 rfl ?_
  refine x_ldcw (z := 252645135) dJ25_bitCount_29 q5965 (by decide) ?_
  refine x_iand dJ25_bitCount_32 rfl ?_
  replace h := ga_let_some h; obtain ⟨v33, ev33, h⟩ := h
  refine x_nm ev33 ?_
  refine x_istore_n (ls' := [(0, (0, v33))]) dJ25_bitCount_33 (by decide) rfl ?_
  refine x_iload_n dJ25_bitCount_34 rfl ?_
  refine x_iload_n dJ25_bitCount_35 rfl ?_
  refine x_bipush dJ25_bitCount_36 (by decide) ?_
  refine x_iushr dJ25_bitCount_38 rfl ?_
  refine x_iadd dJ25_bitCount_39 rfl ?_
  replace h := ga_let_some h; obtain ⟨v40, ev40, h⟩ := h
  refine x_nm ev40 ?_
  refine x_istore_n (ls' := [(0, (0, v40))]) dJ25_bitCount_40 (by decide) rfl ?_
  refine x_iload_n dJ25_bitCount_41 rfl ?_
  refine x_iload_n dJ25_bitCount_42 rfl ?_
  refine x_bipush dJ25_bitCount_43 (by decide) ?_
  refine x_iushr dJ25_bitCount_45 rfl ?_
  refine x_iadd dJ25_bitCount_46 rfl ?_
  replace h := ga_let_some h; obtain ⟨v47, ev47, h⟩ := h
  refine x_nm ev47 ?_
  refine x_istore_n (ls' := [(0, (0, v47))]) dJ25_bitCount_47 (by decide) rfl ?_
  refine x_iload_n dJ25_bitCount_48 rfl ?_
  refine x_bipush dJ25_bitCount_49 (by decide) ?_
  refine x_iand dJ25_bitCount_51 rfl ?_
  obtain ⟨rfl, rfl⟩ := ga_end h
  exact x_iret dJ25_bitCount_52 rfl rfl trivial (hq hP)
theorem g_J30_signum_ok {G : aw_G} {Mz : aw_M} {D D' : ga_D} {r : Int} {x0 : Int} (hS : aw_St Mz) (hP : ga_P D) (h : g_J30_signum x0 D = some (r, D')) : aw_Runs yJ30_signum cJ30_signum 2 (some (.int)) 1 0 0 G [(1, x0)] (aw_wD Mz D) (aw_isP (some (0, r)) (aw_wD Mz D')) aw_no := by
  unfold g_J30_signum at h
  refine aw_body (own := "java/lang/Long") (ini := false) (ls := [(0, (1, x0))]) rfl rfl (fun h => by cases h) (Nat.le_of_ble_eq_true rfl) rfl ?_
  generalize hQ : aw_isP (some (0, r)) (aw_wD Mz D') = Q
  have hq : ga_P D' → Q (some (0, r)) (aw_wD Mz D') := by rw [← hQ]; exact fun hP => ⟨rfl, rfl, hP⟩
  clear hQ
  refine x_lload_n dJ30_signum_0 rfl ?_
  refine x_bipush dJ30_signum_1 (by decide) ?_
  refine x_lshr dJ30_signum_3 rfl ?_
  refine x_lload_n dJ30_signum_4 rfl ?_
  refine x_lneg dJ30_signum_5 rfl ?_
  refine x_bipush dJ30_signum_6 (by decide) ?_
  refine x_lushr dJ30_signum_8 rfl ?_
  refine x_lor dJ30_signum_9 rfl ?_
  refine x_l2i dJ30_signum_10 rfl ?_
  obtain ⟨rfl, rfl⟩ := ga_end h
  exact x_iret dJ30_signum_11 rfl rfl trivial (hq hP)
