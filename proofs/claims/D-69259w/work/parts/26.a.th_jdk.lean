theorem fl_J1_7 : aw_Fl "java/util/AbstractList" 7 60 0 0 := ⟨aw_q60, "java/util/AbstractList", rfl, by decide, q610, Or.inl rfl, rfl⟩
theorem fl_J10_81 : aw_Fl "java/util/HashMap" 81 64 7 3 := ⟨aw_q64, "java/util/HashMap", rfl, by decide, q1838, Or.inl rfl, rfl⟩
theorem fl_J10_88 : aw_Fl "java/util/HashMap" 88 64 6 0 := ⟨aw_q64, "java/util/HashMap", rfl, by decide, q1837, Or.inl rfl, rfl⟩
theorem fl_J10_105 : aw_Fl "java/util/HashMap" 105 64 2 2 := ⟨aw_q64, "java/util/HashMap", rfl, by decide, q1832, Or.inl rfl, rfl⟩
theorem fl_J10_156 : aw_Fl "java/util/HashMap" 156 64 4 0 := ⟨aw_q64, "java/util/HashMap", rfl, by decide, q1834, Or.inl rfl, rfl⟩
theorem fl_J10_162 : aw_Fl "java/util/HashMap" 162 74 2 2 := ⟨aw_q74, "java/util/HashMap$Node", rfl, by decide, q3781, Or.inl rfl, rfl⟩
theorem fl_J10_168 : aw_Fl "java/util/HashMap" 168 74 0 0 := ⟨aw_q74, "java/util/HashMap$Node", rfl, by decide, q3773, Or.inl rfl, rfl⟩
theorem fl_J10_170 : aw_Fl "java/util/HashMap" 170 74 1 2 := ⟨aw_q74, "java/util/HashMap$Node", rfl, by decide, q3779, Or.inl rfl, rfl⟩
theorem fl_J10_177 : aw_Fl "java/util/HashMap" 177 74 3 2 := ⟨aw_q74, "java/util/HashMap$Node", rfl, by decide, q3787, Or.inl rfl, rfl⟩
theorem fl_J10_202 : aw_Fl "java/util/HashMap" 202 64 5 0 := ⟨aw_q64, "java/util/HashMap", rfl, by decide, q1836, Or.inl rfl, rfl⟩
theorem fl_J10_239 : aw_Fl "java/util/HashMap" 239 64 0 2 := ⟨aw_q64, "java/util/HashMap", rfl, by decide, q636, Or.inr q637, rfl⟩
theorem fl_J18_15 : aw_Fl "java/lang/AbstractStringBuilder" 15 68 0 2 := ⟨aw_q68, "java/lang/AbstractStringBuilder", rfl, by decide, q2641, Or.inl rfl, rfl⟩
theorem fl_J18_22 : aw_Fl "java/lang/AbstractStringBuilder" 22 68 1 0 := ⟨aw_q68, "java/lang/AbstractStringBuilder", rfl, by decide, q2642, Or.inl rfl, rfl⟩
theorem fl_J18_79 : aw_Fl "java/lang/AbstractStringBuilder" 79 68 3 0 := ⟨aw_q68, "java/lang/AbstractStringBuilder", rfl, by decide, q2644, Or.inl rfl, rfl⟩
theorem fl_J2_9 : aw_Fl "java/util/ArrayList" 9 60 1 2 := ⟨aw_q60, "java/util/ArrayList", rfl, by decide, q606, Or.inl rfl, rfl⟩
theorem fl_J2_48 : aw_Fl "java/util/ArrayList" 48 60 2 0 := ⟨aw_q60, "java/util/ArrayList", rfl, by decide, q609, Or.inl rfl, rfl⟩
theorem fl_J2_63 : aw_Fl "java/util/ArrayList" 63 60 0 0 := ⟨aw_q60, "java/util/ArrayList", rfl, by decide, q613, Or.inr q612, rfl⟩
theorem fl_J20_1048 : aw_Fl "java/lang/String" 1048 68 2 0 := ⟨aw_q68, "java/lang/AbstractStringBuilder", rfl, by decide, q2643, Or.inl rfl, rfl⟩
theorem fl_J25_205 : aw_Fl "java/lang/Integer" 205 70 0 0 := ⟨aw_q70, "java/lang/Integer", rfl, by decide, q3574, Or.inl rfl, rfl⟩
theorem fl_J26_1 : aw_Fl "java/util/ArrayList$Itr" 1 71 3 2 := ⟨aw_q71, "java/util/ArrayList$Itr", rfl, by decide, q2954, Or.inl rfl, rfl⟩
theorem fl_J26_13 : aw_Fl "java/util/ArrayList$Itr" 13 71 1 0 := ⟨aw_q71, "java/util/ArrayList$Itr", rfl, by decide, q2952, Or.inl rfl, rfl⟩
theorem fl_J26_17 : aw_Fl "java/util/ArrayList$Itr" 17 60 0 0 := ⟨aw_q60, "java/util/ArrayList", rfl, by decide, q611, Or.inr q612, rfl⟩
theorem fl_J26_22 : aw_Fl "java/util/ArrayList$Itr" 22 71 2 0 := ⟨aw_q71, "java/util/ArrayList$Itr", rfl, by decide, q2953, Or.inl rfl, rfl⟩
theorem fl_J26_25 : aw_Fl "java/util/ArrayList$Itr" 25 71 0 0 := ⟨aw_q71, "java/util/ArrayList$Itr", rfl, by decide, q2951, Or.inl rfl, rfl⟩
theorem fl_J26_28 : aw_FlN "java/util/ArrayList$Itr" 28 60 2 0 := ⟨aw_q60, "java/util/ArrayList", "java/util/ArrayList", rfl, by decide, q608, Or.inl rfl, rfl⟩
theorem fl_J26_37 : aw_Fl "java/util/ArrayList$Itr" 37 60 1 2 := ⟨aw_q60, "java/util/ArrayList", rfl, by decide, q607, Or.inl rfl, rfl⟩
theorem fl_J30_273 : aw_Fl "java/lang/Long" 273 73 0 1 := ⟨aw_q73, "java/lang/Long", rfl, by decide, q4204, Or.inl rfl, rfl⟩
theorem fl_J31_7 : aw_Fl "java/util/HashMap$Node" 7 74 0 0 := ⟨aw_q74, "java/util/HashMap$Node", rfl, by decide, q3769, Or.inl rfl, rfl⟩
theorem fl_J31_13 : aw_Fl "java/util/HashMap$Node" 13 74 1 2 := ⟨aw_q74, "java/util/HashMap$Node", rfl, by decide, q3774, Or.inl rfl, rfl⟩
theorem fl_J31_17 : aw_Fl "java/util/HashMap$Node" 17 74 2 2 := ⟨aw_q74, "java/util/HashMap$Node", rfl, by decide, q3780, Or.inl rfl, rfl⟩
theorem fl_J31_20 : aw_Fl "java/util/HashMap$Node" 20 74 3 2 := ⟨aw_q74, "java/util/HashMap$Node", rfl, by decide, q3782, Or.inl rfl, rfl⟩
theorem fl_J35_9 : aw_Fl "java/util/TreeMap$Entry" 9 76 5 0 := ⟨aw_q76, "java/util/TreeMap$Entry", rfl, by decide, q4268, Or.inl rfl, rfl⟩
theorem fl_J35_15 : aw_Fl "java/util/TreeMap$Entry" 15 76 0 2 := ⟨aw_q76, "java/util/TreeMap$Entry", rfl, by decide, q4258, Or.inl rfl, rfl⟩
theorem fl_J35_19 : aw_Fl "java/util/TreeMap$Entry" 19 76 1 2 := ⟨aw_q76, "java/util/TreeMap$Entry", rfl, by decide, q4260, Or.inl rfl, rfl⟩
theorem fl_J35_22 : aw_Fl "java/util/TreeMap$Entry" 22 76 4 2 := ⟨aw_q76, "java/util/TreeMap$Entry", rfl, by decide, q4266, Or.inl rfl, rfl⟩
theorem fl_J36_1 : aw_Fl "java/util/TreeMap$EntrySet" 1 77 0 2 := ⟨aw_q77, "java/util/TreeMap$EntrySet", rfl, by decide, q4385, Or.inl rfl, rfl⟩
theorem fl_J37_1 : aw_Fl "java/util/HashMap$HashIterator" 1 78 4 2 := ⟨aw_q78, "java/util/HashMap$HashIterator", rfl, by decide, q4412, Or.inl rfl, rfl⟩
theorem fl_J37_13 : aw_Fl "java/util/HashMap$HashIterator" 13 64 5 0 := ⟨aw_q64, "java/util/HashMap", rfl, by decide, q1835, Or.inl rfl, rfl⟩
theorem fl_J37_19 : aw_Fl "java/util/HashMap$HashIterator" 19 78 2 0 := ⟨aw_q78, "java/util/HashMap$HashIterator", rfl, by decide, q4410, Or.inl rfl, rfl⟩
theorem fl_J37_22 : aw_Fl "java/util/HashMap$HashIterator" 22 64 2 2 := ⟨aw_q64, "java/util/HashMap", rfl, by decide, q1831, Or.inl rfl, rfl⟩
theorem fl_J37_26 : aw_Fl "java/util/HashMap$HashIterator" 26 78 0 2 := ⟨aw_q78, "java/util/HashMap$HashIterator", rfl, by decide, q4408, Or.inl rfl, rfl⟩
theorem fl_J37_30 : aw_Fl "java/util/HashMap$HashIterator" 30 78 1 2 := ⟨aw_q78, "java/util/HashMap$HashIterator", rfl, by decide, q4409, Or.inl rfl, rfl⟩
theorem fl_J37_33 : aw_Fl "java/util/HashMap$HashIterator" 33 78 3 0 := ⟨aw_q78, "java/util/HashMap$HashIterator", rfl, by decide, q4411, Or.inl rfl, rfl⟩
theorem fl_J37_36 : aw_Fl "java/util/HashMap$HashIterator" 36 64 4 0 := ⟨aw_q64, "java/util/HashMap", rfl, by decide, q1833, Or.inl rfl, rfl⟩
theorem fl_J37_45 : aw_Fl "java/util/HashMap$HashIterator" 45 74 3 2 := ⟨aw_q74, "java/util/HashMap$Node", rfl, by decide, q3783, Or.inl rfl, rfl⟩
theorem fl_J38_13 : aw_Fl "java/util/HashMap$KeyIterator" 13 74 1 2 := ⟨aw_q74, "java/util/HashMap$Node", rfl, by decide, q3775, Or.inl rfl, rfl⟩
theorem fl_J39_1 : aw_Fl "java/util/HashMap$KeySet" 1 79 0 2 := ⟨aw_q79, "java/util/HashMap$KeySet", rfl, by decide, q4440, Or.inl rfl, rfl⟩
theorem fl_J4_7 : aw_Fl "java/util/TreeMap" 7 61 4 0 := ⟨aw_q61, "java/util/TreeMap", rfl, by decide, q632, Or.inl rfl, rfl⟩
theorem fl_J4_13 : aw_Fl "java/util/TreeMap" 13 61 5 0 := ⟨aw_q61, "java/util/TreeMap", rfl, by decide, q633, Or.inl rfl, rfl⟩
theorem fl_J4_16 : aw_Fl "java/util/TreeMap" 16 61 2 2 := ⟨aw_q61, "java/util/TreeMap", rfl, by decide, q630, Or.inl rfl, rfl⟩
theorem fl_J4_58 : aw_Fl "java/util/TreeMap" 58 76 1 2 := ⟨aw_q76, "java/util/TreeMap$Entry", rfl, by decide, q4261, Or.inl rfl, rfl⟩
theorem fl_J4_101 : aw_Fl "java/util/TreeMap" 101 61 3 2 := ⟨aw_q61, "java/util/TreeMap", rfl, by decide, q631, Or.inl rfl, rfl⟩
theorem fl_J4_105 : aw_Fl "java/util/TreeMap" 105 76 0 2 := ⟨aw_q76, "java/util/TreeMap$Entry", rfl, by decide, q4259, Or.inl rfl, rfl⟩
theorem fl_J4_111 : aw_Fl "java/util/TreeMap" 111 76 2 2 := ⟨aw_q76, "java/util/TreeMap$Entry", rfl, by decide, q4263, Or.inl rfl, rfl⟩
theorem fl_J4_114 : aw_Fl "java/util/TreeMap" 114 76 3 2 := ⟨aw_q76, "java/util/TreeMap$Entry", rfl, by decide, q4265, Or.inl rfl, rfl⟩
theorem fl_J4_124 : aw_Fl "java/util/TreeMap" 124 76 4 2 := ⟨aw_q76, "java/util/TreeMap$Entry", rfl, by decide, q4267, Or.inl rfl, rfl⟩
theorem fl_J4_188 : aw_Fl "java/util/TreeMap" 188 61 6 2 := ⟨aw_q61, "java/util/TreeMap", rfl, by decide, q635, Or.inl rfl, rfl⟩
theorem fl_J4_290 : aw_Fl "java/util/TreeMap" 290 76 5 0 := ⟨aw_q76, "java/util/TreeMap$Entry", rfl, by decide, q4269, Or.inl rfl, rfl⟩
theorem fl_J40_1 : aw_Fl "java/util/TreeMap$PrivateEntryIterator" 1 80 3 2 := ⟨aw_q80, "java/util/TreeMap$PrivateEntryIterator", rfl, by decide, q4468, Or.inl rfl, rfl⟩
theorem fl_J40_13 : aw_FlN "java/util/TreeMap$PrivateEntryIterator" 13 61 5 0 := ⟨aw_q61, "java/util/TreeMap", "java/util/TreeMap", rfl, by decide, q634, Or.inl rfl, rfl⟩
theorem fl_J40_19 : aw_Fl "java/util/TreeMap$PrivateEntryIterator" 19 80 2 0 := ⟨aw_q80, "java/util/TreeMap$PrivateEntryIterator", rfl, by decide, q4467, Or.inl rfl, rfl⟩
theorem fl_J40_22 : aw_Fl "java/util/TreeMap$PrivateEntryIterator" 22 80 1 2 := ⟨aw_q80, "java/util/TreeMap$PrivateEntryIterator", rfl, by decide, q4466, Or.inl rfl, rfl⟩
theorem fl_J40_26 : aw_Fl "java/util/TreeMap$PrivateEntryIterator" 26 80 0 2 := ⟨aw_q80, "java/util/TreeMap$PrivateEntryIterator", rfl, by decide, q4465, Or.inl rfl, rfl⟩
theorem fl_J40_45 : aw_Fl "java/util/TreeMap$PrivateEntryIterator" 45 76 2 2 := ⟨aw_q76, "java/util/TreeMap$Entry", rfl, by decide, q4262, Or.inl rfl, rfl⟩
theorem fl_J40_50 : aw_Fl "java/util/TreeMap$PrivateEntryIterator" 50 76 3 2 := ⟨aw_q76, "java/util/TreeMap$Entry", rfl, by decide, q4264, Or.inl rfl, rfl⟩
theorem fl_J43_1 : aw_Fl "java/util/ArrayDeque$DeqIterator" 1 82 3 2 := ⟨aw_q82, "java/util/ArrayDeque$DeqIterator", rfl, by decide, q4682, Or.inl rfl, rfl⟩
theorem fl_J43_19 : aw_Fl "java/util/ArrayDeque$DeqIterator" 19 82 1 0 := ⟨aw_q82, "java/util/ArrayDeque$DeqIterator", rfl, by decide, q4680, Or.inl rfl, rfl⟩
theorem fl_J43_23 : aw_Fl "java/util/ArrayDeque$DeqIterator" 23 82 2 0 := ⟨aw_q82, "java/util/ArrayDeque$DeqIterator", rfl, by decide, q4681, Or.inl rfl, rfl⟩
theorem fl_J43_26 : aw_Fl "java/util/ArrayDeque$DeqIterator" 26 62 1 0 := ⟨aw_q62, "java/util/ArrayDeque", rfl, by decide, q1805, Or.inl rfl, rfl⟩
theorem fl_J43_29 : aw_Fl "java/util/ArrayDeque$DeqIterator" 29 82 0 0 := ⟨aw_q82, "java/util/ArrayDeque$DeqIterator", rfl, by decide, q4679, Or.inl rfl, rfl⟩
theorem fl_J43_35 : aw_Fl "java/util/ArrayDeque$DeqIterator" 35 62 0 2 := ⟨aw_q62, "java/util/ArrayDeque", rfl, by decide, q1804, Or.inl rfl, rfl⟩
theorem fl_J44_7 : aw_Fl "java/util/AbstractMap$SimpleImmutableEntry" 7 83 0 2 := ⟨aw_q83, "java/util/AbstractMap$SimpleImmutableEntry", rfl, by decide, q5089, Or.inl rfl, rfl⟩
theorem fl_J44_13 : aw_Fl "java/util/AbstractMap$SimpleImmutableEntry" 13 83 1 2 := ⟨aw_q83, "java/util/AbstractMap$SimpleImmutableEntry", rfl, by decide, q5090, Or.inl rfl, rfl⟩
theorem fl_J7_3 : aw_Fl "java/util/ArrayDeque" 3 62 0 2 := ⟨aw_q62, "java/util/ArrayDeque", rfl, by decide, q1803, Or.inl rfl, rfl⟩
theorem fl_J7_20 : aw_Fl "java/util/ArrayDeque" 20 62 2 0 := ⟨aw_q62, "java/util/ArrayDeque", rfl, by decide, q1807, Or.inl rfl, rfl⟩
theorem fl_J7_24 : aw_Fl "java/util/ArrayDeque" 24 62 1 0 := ⟨aw_q62, "java/util/ArrayDeque", rfl, by decide, q1806, Or.inl rfl, rfl⟩
theorem fl_J9_10 : aw_Fl "java/util/HashSet" 10 63 0 2 := ⟨aw_q63, "java/util/HashSet", rfl, by decide, q1854, Or.inl rfl, rfl⟩
theorem h_J18_isLatin1_ok {G : aw_G} {D D' : ga_D} {r : Int} {x0 : Int} (hP : h_P D) (h : h_J18_isLatin1 x0 D = some (r, D')) : aw_HR yJ18_isLatin1 cJ18_isLatin1 1 (some (.boolean)) 0 G [(2, x0)] D (some (0, r)) D' := by
  unfold h_J18_isLatin1 at h
  refine hw_body (own := "java/lang/AbstractStringBuilder") (ini := false) (ls := [(0, (2, x0))]) rfl rfl (fun h => by cases h) (Nat.le_of_ble_eq_true rfl) rfl fun Q hq => ?_
  refine hw_1 (fun k => x_gets (tg := 0) (z := 1) dJ18_isLatin1_0 q2632 (by decide +kernel) k) ?_
  refine hw_1 (fun k => x_if_eq (tgt := 17) dJ18_isLatin1_3 (by decide) (fun z => absurd z (show ¬ ((1 : Int) = 0) from (by decide))) (fun _ => k)) ?_
  refine hw_1 (fun k => x_aload_n dJ18_isLatin1_6 rfl k) ?_
  replace h := ga_ck_some h; obtain ⟨hc7_0, h⟩ := h
  refine hw_1 (fun k => x_getf (v := D x0 1) dJ18_isLatin1_7 fl_J18_22 hc7_0 rfl k) ?_
  by_cases c10 : D x0 1 ≠ 0
  · rw [if_pos c10] at h
    refine hw_1 (fun k => x_if_ne (tgt := 17) dJ18_isLatin1_10 (by decide) (fun _ => k) (fun z => absurd c10 z)) ?_
    refine hw_1 (fun k => x_iconst dJ18_isLatin1_17 (by decide) k) ?_
    obtain ⟨rfl, rfl⟩ := ga_end h
    exact hw_ret hP (x_iret dJ18_isLatin1_18 rfl rfl (show (0 : Int) ≤ 0 ∧ (0 : Int) < 2 from by decide) hq)
  · rw [if_neg c10] at h
    refine hw_1 (fun k => x_if_ne (tgt := 17) dJ18_isLatin1_10 (by decide) (fun z => absurd z c10) (fun _ => k)) ?_
    refine hw_1 (fun k => x_iconst dJ18_isLatin1_13 (by decide) k) ?_
    refine hw_1 (fun k => x_goto (tgt := 18) dJ18_isLatin1_14 (by decide) k) ?_
    obtain ⟨rfl, rfl⟩ := ga_end h
    exact hw_ret hP (x_iret dJ18_isLatin1_18 rfl rfl (show (0 : Int) ≤ 1 ∧ (1 : Int) < 2 from by decide) hq)
theorem h_J18_getValue_ok {G : aw_G} {D D' : ga_D} {r : Int} {x0 : Int} (hP : h_P D) (h : h_J18_getValue x0 D = some (r, D')) : aw_HR yJ18_getValue cJ18_getValue 1 (some (.array .byte)) 0 G [(2, x0)] D (some (2, r)) D' := by
  unfold h_J18_getValue at h
  refine hw_body (own := "java/lang/AbstractStringBuilder") (ini := false) (ls := [(0, (2, x0))]) rfl rfl (fun h => by cases h) (Nat.le_of_ble_eq_true rfl) rfl fun Q hq => ?_
  refine hw_1 (fun k => x_aload_n dJ18_getValue_0 rfl k) ?_
  replace h := ga_ck_some h; obtain ⟨hc1_0, h⟩ := h
  refine hw_1 (fun k => x_getf (v := D x0 0) dJ18_getValue_1 fl_J18_15 hc1_0 rfl k) ?_
  obtain ⟨rfl, rfl⟩ := ga_end h
  exact hw_ret hP (x_aret dJ18_getValue_4 rfl (by first | exact Or.inl ⟨_, rfl⟩ | exact Or.inr ⟨_, rfl⟩) hq)
theorem h_J18_length_ok {G : aw_G} {D D' : ga_D} {r : Int} {x0 : Int} (hP : h_P D) (h : h_J18_length x0 D = some (r, D')) : aw_HR yJ18_length cJ18_length 1 (some (.int)) 0 G [(2, x0)] D (some (0, r)) D' := by
  unfold h_J18_length at h
  refine hw_body (own := "java/lang/AbstractStringBuilder") (ini := false) (ls := [(0, (2, x0))]) rfl rfl (fun h => by cases h) (Nat.le_of_ble_eq_true rfl) rfl fun Q hq => ?_
  refine hw_1 (fun k => x_aload_n dJ18_length_0 rfl k) ?_
  replace h := ga_ck_some h; obtain ⟨hc1_0, h⟩ := h
  refine hw_1 (fun k => x_getf (v := D x0 3) dJ18_length_1 fl_J18_79 hc1_0 rfl k) ?_
  obtain ⟨rfl, rfl⟩ := ga_end h
  exact hw_ret hP (x_iret dJ18_length_4 rfl rfl trivial hq)
theorem h_J0_init_ok {G : aw_G} {D D' : ga_D} {r : Int} {x0 : Int} (hx0 : 0 < x0) (hP : h_P D) (h : h_J0_init x0 D = some (r, D')) : aw_HR yJ0_init cJ0_init 1 none 1 G [(2, x0)] D none D' := by
  unfold h_J0_init at h
  refine hw_body (own := "java/util/AbstractCollection") (ini := true) (ls := [(0, (2, x0))]) rfl rfl (fun _ => rfl) (Nat.le_of_ble_eq_true rfl) rfl fun Q hq => ?_
  refine hw_1 (fun k => x_aload_n dJ0_init_0 rfl k) ?_
  refine hw_1 (fun k => x_objInit0 dJ0_init_1 q603 q512 q513 hx0 (by decide) (Nat.le_of_ble_eq_true rfl) k) ?_
  obtain ⟨rfl, rfl⟩ := ga_end h
  exact hw_ret hP (x_vret dJ0_init_4 rfl hq)
theorem h_J26_init_ok {G : aw_G} {D D' : ga_D} {r : Int} {x0 x1 : Int} (hx0 : 0 < x0) (hP : h_P D) (h : h_J26_init x0 x1 D = some (r, D')) : aw_HR yJ26_init cJ26_init 2 none 1 G [(2, x0), (2, x1)] D none D' := by
  unfold h_J26_init at h
  refine hw_body (own := "java/util/ArrayList$Itr") (ini := true) (ls := [(0, (2, x0)), (1, (2, x1))]) rfl rfl (fun _ => rfl) (Nat.le_of_ble_eq_true rfl) rfl fun Q hq => ?_
  refine hw_1 (fun k => x_aload_n dJ26_init_0 rfl k) ?_
  refine hw_1 (fun k => x_aload_n dJ26_init_1 rfl k) ?_
  replace h := ga_ck_some h; obtain ⟨hc2_0, h⟩ := h
  replace h := ga_let_some h; obtain ⟨D2, eD2, h⟩ := h
  refine hw_set eD2 (Int.le_trans (by decide) (hkge_71 hc2_0)) (by decide) (fun k => x_putfF dJ26_init_2 fl_J26_1 rfl rfl hc2_0 (hkge_71 hc2_0) trivial k) ?_
  have hP2 : h_P D2 := hP.set eD2 (hkge_71 hc2_0) (by decide) (hPn hc2_0 rfl)
  have hE2 : h_E D D2 := h_E_set eD2 (by decide)
  refine hw_1 (fun k => x_aload_n dJ26_init_5 rfl k) ?_
  refine hw_1 (fun k => x_objInit dJ26_init_6 q2950 q512 q513 (h_kx hE2 hc2_0 (by decide)) rfl (by decide) (Nat.le_of_ble_eq_true rfl) k) ?_
  refine hw_1 (fun k => x_aload_n dJ26_init_9 rfl k) ?_
  refine hw_1 (fun k => x_iconst dJ26_init_10 (by decide) k) ?_
  replace h := ga_let_some h; obtain ⟨D11, eD11, h⟩ := h
  refine hw_set eD11 (Int.le_trans (by decide) (hkge_71 (h_kx hE2 hc2_0 (by decide)))) (by decide) (fun k => x_putf dJ26_init_11 fl_J26_13 rfl (h_kx hE2 hc2_0 (by decide)) (hkge_71 (h_kx hE2 hc2_0 (by decide))) trivial k) ?_
  have hP11 : h_P D11 := hP2.set eD11 (hkge_71 (h_kx hE2 hc2_0 (by decide))) (by decide) (hPn (h_kx hE2 hc2_0 (by decide)) rfl)
  have hE11 : h_E D2 D11 := h_E_set eD11 (by decide)
  refine hw_1 (fun k => x_aload_n dJ26_init_14 rfl k) ?_
  refine hw_1 (fun k => x_aload_n dJ26_init_15 rfl k) ?_
  refine hw_1 (fun k => x_getf (v := D11 x0 3) dJ26_init_16 fl_J26_1 (h_kx hE11 (h_kx hE2 hc2_0 (by decide)) (by decide)) rfl k) ?_
  replace h := ga_ck_some h; obtain ⟨hc19_1, h⟩ := h
  refine hw_1 (fun k => x_getf (v := D11 (D11 x0 3) 0) dJ26_init_19 fl_J26_17 hc19_1 rfl k) ?_
  replace h := ga_let_some h; obtain ⟨D22, eD22, h⟩ := h
  refine hw_set eD22 (Int.le_trans (by decide) (hkge_71 (h_kx hE11 (h_kx hE2 hc2_0 (by decide)) (by decide)))) (by decide) (fun k => x_putf dJ26_init_22 fl_J26_22 rfl (h_kx hE11 (h_kx hE2 hc2_0 (by decide)) (by decide)) (hkge_71 (h_kx hE11 (h_kx hE2 hc2_0 (by decide)) (by decide))) trivial k) ?_
  have hP22 : h_P D22 := hP11.set eD22 (hkge_71 (h_kx hE11 (h_kx hE2 hc2_0 (by decide)) (by decide))) (by decide) (hPn (h_kx hE11 (h_kx hE2 hc2_0 (by decide)) (by decide)) rfl)
  have hE22 : h_E D11 D22 := h_E_set eD22 (by decide)
  obtain ⟨rfl, rfl⟩ := ga_end h
  exact hw_ret hP22 (x_vret dJ26_init_25 rfl hq)
theorem h_J2_iterator_ok {G : aw_G} {D D' : ga_D} {r : Int} {x0 : Int} (hP : h_P D) (h : h_J2_iterator x0 D = some (r, D')) : aw_HR yJ2_iterator cJ2_iterator 1 (some (.object "java/util/Iterator")) 2 G [(2, x0)] D (some (2, r)) D' := by
  unfold h_J2_iterator at h
  refine hw_body (own := "java/util/ArrayList") (ini := false) (ls := [(0, (2, x0))]) rfl rfl (fun h => by cases h) (Nat.le_of_ble_eq_true rfl) rfl fun Q hq => ?_
  replace h := ga_let_some h; obtain ⟨z0, ez0, h⟩ := h
  replace h := ga_let_some h; obtain ⟨D0, eD0, h⟩ := h
  refine hy_new hP ez0 eD0 rfl rfl dJ2_iterator_0 rfl rfl q2945 q2946 q477 (fun hP0 hE0 hz0 hg0 => ?_)
  refine hw_1 (fun k => x_dup dJ2_iterator_3 rfl k) ?_
  refine hw_1 (fun k => x_aload_n dJ2_iterator_4 rfl k) ?_
  replace h := ga_bind_some h; obtain ⟨r5, D5, g5, h⟩ := h
  have hR5 := (h_J26_init_ok (G := G) (hk_pos1 hz0 (by decide)) hP0 g5)
  obtain ⟨hP5, hE5, -⟩ := id hR5
  refine hw_call (rest := [(2, z0)]) hR5 (fun hc hk9 => x_callI (as := [(2, x0)]) (rest := [(2, z0)]) dJ2_iterator_5 hc (lw_meth q2949) q477 q2947 q2948 hz0 rfl rfl (show _ ∧ _ ∧ _ = some 1 from by decide +kernel) (by decide) (by decide) rfl (Nat.le_of_ble_eq_true rfl) hk9 aw_nox) ?_
  obtain ⟨rfl, rfl⟩ := ga_end h
  exact hw_ret hP5 (x_aret dJ2_iterator_8 rfl (by first | exact Or.inl ⟨_, rfl⟩ | exact Or.inr ⟨_, rfl⟩) hq)
theorem h_J4_getFirstEntry_l9_ok {G : aw_G} {M0 : aw_M} {D' : ga_D} {Q : Option aw_V → aw_M → Prop} {r : Int} (hq : Q (some (2, r)) (hM D')) {k24 : Int → ga_D → ga_S} (hk24 : ∀ (x1 : Int) (D : ga_D), h_P D → k24 x1 D = some (r, D') → aw_HW G "java/util/TreeMap" cJ4_getFirstEntry (some (.object "java/util/TreeMap$Entry")) 2 0 false M0 Q aw_no D' (hn D') (hsl D') 24 [(1, (2, x1))] [] D) : ∀ {n : Nat} {x1 : Int} {D : ga_D}, h_P D → h_J4_getFirstEntry_l9 n x1 D k24 = some (r, D') → aw_HW G "java/util/TreeMap" cJ4_getFirstEntry (some (.object "java/util/TreeMap$Entry")) 2 0 false M0 Q aw_no D' (hn D') (hsl D') 9 [(1, (2, x1))] [] D := by
  intro n
  induction n with
  | zero => intro x1 D hP h; exact absurd (h : (none : ga_S) = some (r, D')) (by intro h; cases h)
  | succ n ih =>
    intro x1 D hP h
    have ih : ∀ (x1 : Int) (D : ga_D), h_P D → h_J4_getFirstEntry_l9 n x1 D k24 = some (r, D') → aw_HW G "java/util/TreeMap" cJ4_getFirstEntry (some (.object "java/util/TreeMap$Entry")) 2 0 false M0 Q aw_no D' (hn D') (hsl D') 9 [(1, (2, x1))] [] D := fun x1 D hP h => ih hP h
    replace h : (ga_ck (hk D x1 = (76, 0)) (if D x1 2 = 0 then (k24 x1 D) else (ga_let (D x1 2) (fun v20 => h_J4_getFirstEntry_l9 n v20 D k24))) : ga_S) = some (r, D') := h
    refine hw_1 (fun k => x_aload_n dJ4_getFirstEntry_9 rfl k) ?_
    replace h := ga_ck_some h; obtain ⟨hc10_0, h⟩ := h
    refine hw_1 (fun k => x_getf (v := D x1 2) dJ4_getFirstEntry_10 fl_J4_111 hc10_0 rfl k) ?_
    by_cases c13 : D x1 2 = 0
    · rw [if_pos c13] at h
      refine hw_1 (fun k => x_ifnull (tgt := 24) dJ4_getFirstEntry_13 (by decide) (fun _ => k) (fun z => absurd c13 z)) ?_
      exact hk24 _ _ hP h
    · rw [if_neg c13] at h
      refine hw_1 (fun k => x_ifnull (tgt := 24) dJ4_getFirstEntry_13 (by decide) (fun z => absurd z c13) (fun _ => k)) ?_
      refine hw_1 (fun k => x_aload_n dJ4_getFirstEntry_16 rfl k) ?_
      refine hw_1 (fun k => x_getf (v := D x1 2) dJ4_getFirstEntry_17 fl_J4_111 hc10_0 rfl k) ?_
      replace h := ga_let_some h; obtain ⟨v20, ev20, h⟩ := h
      refine hw_nm ev20 ?_
      refine hw_1 (fun k => x_astore_n (ls' := [(1, (2, v20))]) dJ4_getFirstEntry_20 (by decide) rfl k) ?_
      refine hw_1 (fun k => x_goto (tgt := 9) dJ4_getFirstEntry_21 (by decide) k) ?_
      exact ih _ _ hP h
theorem h_J4_getFirstEntry_ok {G : aw_G} {D D' : ga_D} {r : Int} {x0 : Int} (hP : h_P D) (h : h_J4_getFirstEntry x0 D = some (r, D')) : aw_HR yJ4_getFirstEntry cJ4_getFirstEntry 2 (some (.object "java/util/TreeMap$Entry")) 0 G [(2, x0)] D (some (2, r)) D' := by
  unfold h_J4_getFirstEntry at h
  refine hw_body (own := "java/util/TreeMap") (ini := false) (ls := [(0, (2, x0))]) rfl rfl (fun h => by cases h) (Nat.le_of_ble_eq_true rfl) rfl fun Q hq => ?_
  refine hw_1 (fun k => x_aload_n dJ4_getFirstEntry_0 rfl k) ?_
  replace h := ga_ck_some h; obtain ⟨hc1_0, h⟩ := h
  refine hw_1 (fun k => x_getf (v := D x0 3) dJ4_getFirstEntry_1 fl_J4_101 hc1_0 rfl k) ?_
  replace h := ga_let_some h; obtain ⟨v4, ev4, h⟩ := h
  refine hw_nm ev4 ?_
  refine hw_1 (fun k => x_astore_n (ls' := [(1, (2, v4)), (0, (2, x0))]) dJ4_getFirstEntry_4 (by decide) rfl k) ?_
  refine hw_1 (fun k => x_aload_n dJ4_getFirstEntry_5 rfl k) ?_
  by_cases c6 : v4 = 0
  · rw [if_pos c6] at h
    refine hw_1 (fun k => x_ifnull (tgt := 24) dJ4_getFirstEntry_6 (by decide) (fun _ => k) (fun z => absurd c6 z)) ?_
    refine hw_1 (fun k => x_aload_n dJ4_getFirstEntry_24 rfl k) ?_
    obtain ⟨rfl, rfl⟩ := ga_end h
    exact hw_ret hP (x_aret dJ4_getFirstEntry_25 rfl (by first | exact Or.inl ⟨_, rfl⟩ | exact Or.inr ⟨_, rfl⟩) hq)
  · rw [if_neg c6] at h
    refine hw_1 (fun k => x_ifnull (tgt := 24) dJ4_getFirstEntry_6 (by decide) (fun z => absurd z c6) (fun _ => k)) ?_
    refine hw_locs [0] (ls' := [(1, (2, v4))]) rfl ?_
    refine h_J4_getFirstEntry_l9_ok hq (fun x1 D24 hP h => ?_) hP h
    · refine hw_1 (fun k => x_aload_n dJ4_getFirstEntry_24 rfl k) ?_
      obtain ⟨rfl, rfl⟩ := ga_end h
      exact hw_ret hP (x_aret dJ4_getFirstEntry_25 rfl (by first | exact Or.inl ⟨_, rfl⟩ | exact Or.inr ⟨_, rfl⟩) hq)
theorem h_J40_init_ok {G : aw_G} {D D' : ga_D} {r : Int} {x0 x1 x2 : Int} (hx0 : 0 < x0) (hP : h_P D) (h : h_J40_init x0 x1 x2 D = some (r, D')) : aw_HR yJ40_init cJ40_init 3 none 1 G [(2, x0), (2, x1), (2, x2)] D none D' := by
  unfold h_J40_init at h
  refine hw_body (own := "java/util/TreeMap$PrivateEntryIterator") (ini := true) (ls := [(0, (2, x0)), (1, (2, x1)), (2, (2, x2))]) rfl rfl (fun _ => rfl) (Nat.le_of_ble_eq_true rfl) rfl fun Q hq => ?_
  refine hw_1 (fun k => x_aload_n dJ40_init_0 rfl k) ?_
  refine hw_1 (fun k => x_aload_n dJ40_init_1 rfl k) ?_
  replace h := ga_ck_some h; obtain ⟨hc2_0, h⟩ := h
  replace h := ga_let_some h; obtain ⟨D2, eD2, h⟩ := h
  refine hw_set eD2 (Int.le_trans (by decide) (hkge_80 hc2_0)) (by decide) (fun k => x_putfF dJ40_init_2 fl_J40_1 rfl rfl hc2_0 (hkge_80 hc2_0) trivial k) ?_
  have hP2 : h_P D2 := hP.set eD2 (hkge_80 hc2_0) (by decide) (hPn hc2_0 rfl)
  have hE2 : h_E D D2 := h_E_set eD2 (by decide)
  refine hw_1 (fun k => x_aload_n dJ40_init_5 rfl k) ?_
  refine hw_1 (fun k => x_objInit dJ40_init_6 q4464 q512 q513 (h_kx hE2 hc2_0 (by decide)) rfl (by decide) (Nat.le_of_ble_eq_true rfl) k) ?_
  refine hw_1 (fun k => x_aload_n dJ40_init_9 rfl k) ?_
  refine hw_1 (fun k => x_aload_n dJ40_init_10 rfl k) ?_
  replace h := ga_ck_some h; obtain ⟨hc11_1, h⟩ := h
  refine hw_1 (fun k => x_getfN (v := D2 x1 5) dJ40_init_11 fl_J40_13 hc11_1 rfl k) ?_
  replace h := ga_let_some h; obtain ⟨D14, eD14, h⟩ := h
  refine hw_set eD14 (Int.le_trans (by decide) (hkge_80 (h_kx hE2 hc2_0 (by decide)))) (by decide) (fun k => x_putf dJ40_init_14 fl_J40_19 rfl (h_kx hE2 hc2_0 (by decide)) (hkge_80 (h_kx hE2 hc2_0 (by decide))) trivial k) ?_
  have hP14 : h_P D14 := hP2.set eD14 (hkge_80 (h_kx hE2 hc2_0 (by decide))) (by decide) (hPn (h_kx hE2 hc2_0 (by decide)) rfl)
  have hE14 : h_E D2 D14 := h_E_set eD14 (by decide)
  refine hw_1 (fun k => x_aload_n dJ40_init_17 rfl k) ?_
  refine hw_1 (fun k => x_null dJ40_init_18 k) ?_
  replace h := ga_let_some h; obtain ⟨D19, eD19, h⟩ := h
  refine hw_set eD19 (Int.le_trans (by decide) (hkge_80 (h_kx hE14 (h_kx hE2 hc2_0 (by decide)) (by decide)))) (by decide) (fun k => x_putf dJ40_init_19 fl_J40_22 rfl (h_kx hE14 (h_kx hE2 hc2_0 (by decide)) (by decide)) (hkge_80 (h_kx hE14 (h_kx hE2 hc2_0 (by decide)) (by decide))) trivial k) ?_
  have hP19 : h_P D19 := hP14.set eD19 (hkge_80 (h_kx hE14 (h_kx hE2 hc2_0 (by decide)) (by decide))) (by decide) (hPn (h_kx hE14 (h_kx hE2 hc2_0 (by decide)) (by decide)) rfl)
  have hE19 : h_E D14 D19 := h_E_set eD19 (by decide)
  refine hw_1 (fun k => x_aload_n dJ40_init_22 rfl k) ?_
  refine hw_1 (fun k => x_aload_n dJ40_init_23 rfl k) ?_
  replace h := ga_let_some h; obtain ⟨D24, eD24, h⟩ := h
  refine hw_set eD24 (Int.le_trans (by decide) (hkge_80 (h_kx hE19 (h_kx hE14 (h_kx hE2 hc2_0 (by decide)) (by decide)) (by decide)))) (by decide) (fun k => x_putf dJ40_init_24 fl_J40_26 rfl (h_kx hE19 (h_kx hE14 (h_kx hE2 hc2_0 (by decide)) (by decide)) (by decide)) (hkge_80 (h_kx hE19 (h_kx hE14 (h_kx hE2 hc2_0 (by decide)) (by decide)) (by decide))) trivial k) ?_
  have hP24 : h_P D24 := hP19.set eD24 (hkge_80 (h_kx hE19 (h_kx hE14 (h_kx hE2 hc2_0 (by decide)) (by decide)) (by decide))) (by decide) (hPn (h_kx hE19 (h_kx hE14 (h_kx hE2 hc2_0 (by decide)) (by decide)) (by decide)) rfl)
  have hE24 : h_E D19 D24 := h_E_set eD24 (by decide)
  obtain ⟨rfl, rfl⟩ := ga_end h
  exact hw_ret hP24 (x_vret dJ40_init_27 rfl hq)
theorem h_J41_init_ok {G : aw_G} {D D' : ga_D} {r : Int} {x0 x1 x2 : Int} (hx0 : 0 < x0) (hP : h_P D) (h : h_J41_init x0 x1 x2 D = some (r, D')) : aw_HR yJ41_init cJ41_init 3 none 2 G [(2, x0), (2, x1), (2, x2)] D none D' := by
  unfold h_J41_init at h
  refine hw_body (own := "java/util/TreeMap$EntryIterator") (ini := true) (ls := [(0, (2, x0)), (1, (2, x1)), (2, (2, x2))]) rfl rfl (fun _ => rfl) (Nat.le_of_ble_eq_true rfl) rfl fun Q hq => ?_
  refine hw_1 (fun k => x_aload_n dJ41_init_0 rfl k) ?_
  refine hw_1 (fun k => x_aload_n dJ41_init_1 rfl k) ?_
  refine hw_1 (fun k => x_aload_n dJ41_init_2 rfl k) ?_
  replace h := ga_bind_some h; obtain ⟨r3, D3, g3, h⟩ := h
  have hR3 := (h_J40_init_ok (G := G) hx0 hP g3)
  obtain ⟨hP3, hE3, -⟩ := id hR3
  refine hw_call (rest := []) hR3 (fun hc hk9 => x_callI0 (as := [(2, x1), (2, x2)]) (rest := []) dJ41_init_3 hc (lw_meth q4463) q498 q4461 q4462 hx0 rfl (show _ ∧ _ ∧ _ = some 2 from by decide +kernel) (by decide) (by decide) rfl (Nat.le_of_ble_eq_true rfl) hk9 aw_nox) ?_
  obtain ⟨rfl, rfl⟩ := ga_end h
  exact hw_ret hP3 (x_vret dJ41_init_6 rfl hq)
theorem h_J36_iterator_ok {G : aw_G} {D D' : ga_D} {r : Int} {x0 : Int} (hP : h_P D) (h : h_J36_iterator x0 D = some (r, D')) : aw_HR yJ36_iterator cJ36_iterator 1 (some (.object "java/util/Iterator")) 3 G [(2, x0)] D (some (2, r)) D' := by
  unfold h_J36_iterator at h
  refine hw_body (own := "java/util/TreeMap$EntrySet") (ini := false) (ls := [(0, (2, x0))]) rfl rfl (fun h => by cases h) (Nat.le_of_ble_eq_true rfl) rfl fun Q hq => ?_
  replace h := ga_let_some h; obtain ⟨z0, ez0, h⟩ := h
  replace h := ga_let_some h; obtain ⟨D0, eD0, h⟩ := h
  refine hy_new hP ez0 eD0 rfl rfl dJ36_iterator_0 rfl rfl q4452 q4453 q499 (fun hP0 hE0 hz0 hg0 => ?_)
  refine hw_1 (fun k => x_dup dJ36_iterator_3 rfl k) ?_
  refine hw_1 (fun k => x_aload_n dJ36_iterator_4 rfl k) ?_
  replace h := ga_ck_some h; obtain ⟨hc5_0, h⟩ := h
  refine hw_1 (fun k => x_getf (v := D0 x0 0) dJ36_iterator_5 fl_J36_1 hc5_0 rfl k) ?_
  refine hw_1 (fun k => x_aload_n dJ36_iterator_8 rfl k) ?_
  refine hw_1 (fun k => x_getf (v := D0 x0 0) dJ36_iterator_9 fl_J36_1 hc5_0 rfl k) ?_
  replace h := ga_ck_some h; obtain ⟨hc12_1, h⟩ := h
  replace h := ga_bind_some h; obtain ⟨r12, D12, g12, h⟩ := h
  have hR12 := (h_J4_getFirstEntry_ok (G := G) hP0 g12)
  obtain ⟨hP12, hE12, -⟩ := id hR12
  refine hw_call (rest := [(2, D0 x0 0), (2, z0), (2, z0)]) hR12 (fun hc hk9 => x_callV (as := []) (rest := [(2, D0 x0 0), (2, z0), (2, z0)]) dJ36_iterator_12 hc (lw_V q4454 q4455 q4456 q403 q4457) hc12_1 rfl rfl (show _ ∧ _ ∧ _ ∧ _ = some 0 from by decide +kernel) (by decide) (by decide) rfl (Nat.le_of_ble_eq_true rfl) hk9 aw_nox) ?_
  replace h := ga_bind_some h; obtain ⟨r15, D15, g15, h⟩ := h
  have hR15 := (h_J41_init_ok (G := G) (hk_pos1 (h_kx hE12 hz0 (by decide)) (by decide)) hP12 g15)
  obtain ⟨hP15, hE15, -⟩ := id hR15
  refine hw_call (rest := [(2, z0)]) hR15 (fun hc hk9 => x_callI (as := [(2, D0 x0 0), (2, r12)]) (rest := [(2, z0)]) dJ36_iterator_15 hc (lw_meth q4460) q499 q4458 q4459 (h_kx hE12 hz0 (by decide)) rfl rfl (show _ ∧ _ ∧ _ = some 2 from by decide +kernel) (by decide) (by decide) rfl (Nat.le_of_ble_eq_true rfl) hk9 aw_nox) ?_
  obtain ⟨rfl, rfl⟩ := ga_end h
  exact hw_ret hP15 (x_aret dJ36_iterator_18 rfl (by first | exact Or.inl ⟨_, rfl⟩ | exact Or.inr ⟨_, rfl⟩) hq)
theorem h_J37_init_l48_ok {G : aw_G} {M0 : aw_M} {D' : ga_D} {Q : Option aw_V → aw_M → Prop} {r : Int} (hq : Q none (hM D')) {k78 : ga_D → ga_S} (hk78 : ∀ (D : ga_D), h_P D → k78 D = some (r, D') → aw_HW G "java/util/HashMap$HashIterator" cJ37_init none 3 1 true M0 Q aw_no D' (hn D') (hsl D') 78 [] [] D) : ∀ {n : Nat} {x0 x2 : Int} {D : ga_D}, h_P D → h_J37_init_l48 n x0 x2 D k78 = some (r, D') → aw_HW G "java/util/HashMap$HashIterator" cJ37_init none 3 1 true M0 Q aw_no D' (hn D') (hsl D') 48 [(0, (2, x0)), (2, (2, x2))] [] D := by
  intro n
  induction n with
  | zero => intro x0 x2 D hP h; exact absurd (h : (none : ga_S) = some (r, D')) (by intro h; cases h)
  | succ n ih =>
    intro x0 x2 D hP h
    have ih : ∀ (x0 x2 : Int) (D : ga_D), h_P D → h_J37_init_l48 n x0 x2 D k78 = some (r, D') → aw_HW G "java/util/HashMap$HashIterator" cJ37_init none 3 1 true M0 Q aw_no D' (hn D') (hsl D') 48 [(0, (2, x0)), (2, (2, x2))] [] D := fun x0 x2 D hP h => ih hP h
    replace h : (ga_ck (hk D x0 = (78, 0)) (ga_ck ((hk D x2).1 = 1018) (if (hk D x2).2 ≤ D x0 3 then (k78 D) else (ga_let (ga_set D x0 3 (aw_w32 ((D x0 3) + 1))) (fun D67 => ga_ck (0 ≤ D x0 3 ∧ D x0 3 < (hk D x2).2) (ga_let (ga_set D67 x0 0 (D67 x2 (D x0 3))) (fun D72 => if D67 x2 (D x0 3) = 0 then (h_J37_init_l48 n x0 x2 D72 k78) else (k78 D72))))))) : ga_S) = some (r, D') := h
    refine hw_1 (fun k => x_aload_n dJ37_init_48 rfl k) ?_
    replace h := ga_ck_some h; obtain ⟨hc49_0, h⟩ := h
    refine hw_1 (fun k => x_getf (v := D x0 3) dJ37_init_49 fl_J37_33 hc49_0 rfl k) ?_
    refine hw_1 (fun k => x_aload_n dJ37_init_52 rfl k) ?_
    replace h := ga_ck_some h; obtain ⟨hc53_1, h⟩ := h
    refine hw_1 (fun k => x_alen (t := 18) dJ37_init_53 (hk_p hc53_1) rfl k) ?_
    by_cases c54 : (hk D x2).2 ≤ D x0 3
    · rw [if_pos c54] at h
      refine hw_1 (fun k => x_icmp_ge (tgt := 78) dJ37_init_54 (by decide) (fun _ => k) (fun z => absurd c54 z)) ?_
      refine hw_locs [] (ls' := []) rfl ?_
      exact hk78 _ hP h
    · rw [if_neg c54] at h
      refine hw_1 (fun k => x_icmp_ge (tgt := 78) dJ37_init_54 (by decide) (fun z => absurd z c54) (fun _ => k)) ?_
      refine hw_1 (fun k => x_aload_n dJ37_init_57 rfl k) ?_
      refine hw_1 (fun k => x_aload_n dJ37_init_58 rfl k) ?_
      refine hw_1 (fun k => x_aload_n dJ37_init_59 rfl k) ?_
      refine hw_1 (fun k => x_dup dJ37_init_60 rfl k) ?_
      refine hw_1 (fun k => x_getf (v := D x0 3) dJ37_init_61 fl_J37_33 hc49_0 rfl k) ?_
      refine hw_1 (fun k => x_dup_x1 dJ37_init_64 rfl rfl k) ?_
      refine hw_1 (fun k => x_iconst dJ37_init_65 (by decide) k) ?_
      refine hw_1 (fun k => x_iadd dJ37_init_66 rfl k) ?_
      replace h := ga_let_some h; obtain ⟨D67, eD67, h⟩ := h
      refine hw_set eD67 (Int.le_trans (by decide) (hkge_78 hc49_0)) (by decide) (fun k => x_putf dJ37_init_67 fl_J37_33 rfl hc49_0 (hkge_78 hc49_0) trivial k) ?_
      have hP67 : h_P D67 := hP.set eD67 (hkge_78 hc49_0) (by decide) (hPn hc49_0 rfl)
      have hE67 : h_E D D67 := h_E_set eD67 (by decide)
      replace h := ga_ck_some h; obtain ⟨hc70_0, h⟩ := h
      refine hw_1 (fun k => x_aald (t := 18) (v := D67 x2 (D x0 3)) dJ37_init_70 (h_kx hE67 (hk_p hc53_1) (by decide)) rfl rfl hc70_0.1 hc70_0.2 rfl k) ?_
      refine hw_1 (fun k => x_dup_x1 dJ37_init_71 rfl rfl k) ?_
      replace h := ga_let_some h; obtain ⟨D72, eD72, h⟩ := h
      refine hw_set eD72 (Int.le_trans (by decide) (hkge_78 (h_kx hE67 hc49_0 (by decide)))) (by decide) (fun k => x_putf dJ37_init_72 fl_J37_26 rfl (h_kx hE67 hc49_0 (by decide)) (hkge_78 (h_kx hE67 hc49_0 (by decide))) trivial k) ?_
      have hP72 : h_P D72 := hP67.set eD72 (hkge_78 (h_kx hE67 hc49_0 (by decide))) (by decide) (hPn (h_kx hE67 hc49_0 (by decide)) rfl)
      have hE72 : h_E D67 D72 := h_E_set eD72 (by decide)
      by_cases c75 : D67 x2 (D x0 3) = 0
      · rw [if_pos c75] at h
        refine hw_1 (fun k => x_ifnull (tgt := 48) dJ37_init_75 (by decide) (fun _ => k) (fun z => absurd c75 z)) ?_
        exact ih _ _ _ hP72 h
      · rw [if_neg c75] at h
        refine hw_1 (fun k => x_ifnull (tgt := 48) dJ37_init_75 (by decide) (fun z => absurd z c75) (fun _ => k)) ?_
        refine hw_locs [] (ls' := []) rfl ?_
        exact hk78 _ hP72 h
theorem h_J37_init_ok {G : aw_G} {D D' : ga_D} {r : Int} {x0 x1 : Int} (hx0 : 0 < x0) (hP : h_P D) (h : h_J37_init x0 x1 D = some (r, D')) : aw_HR yJ37_init cJ37_init 3 none 1 G [(2, x0), (2, x1)] D none D' := by
  unfold h_J37_init at h
  refine hw_body (own := "java/util/HashMap$HashIterator") (ini := true) (ls := [(0, (2, x0)), (1, (2, x1))]) rfl rfl (fun _ => rfl) (Nat.le_of_ble_eq_true rfl) rfl fun Q hq => ?_
  refine hw_1 (fun k => x_aload_n dJ37_init_0 rfl k) ?_
  refine hw_1 (fun k => x_aload_n dJ37_init_1 rfl k) ?_
  replace h := ga_ck_some h; obtain ⟨hc2_0, h⟩ := h
  replace h := ga_let_some h; obtain ⟨D2, eD2, h⟩ := h
  refine hw_set eD2 (Int.le_trans (by decide) (hkge_78 hc2_0)) (by decide) (fun k => x_putfF dJ37_init_2 fl_J37_1 rfl rfl hc2_0 (hkge_78 hc2_0) trivial k) ?_
  have hP2 : h_P D2 := hP.set eD2 (hkge_78 hc2_0) (by decide) (hPn hc2_0 rfl)
  have hE2 : h_E D D2 := h_E_set eD2 (by decide)
  refine hw_1 (fun k => x_aload_n dJ37_init_5 rfl k) ?_
  refine hw_1 (fun k => x_objInit dJ37_init_6 q4407 q512 q513 (h_kx hE2 hc2_0 (by decide)) rfl (by decide) (Nat.le_of_ble_eq_true rfl) k) ?_
  refine hw_1 (fun k => x_aload_n dJ37_init_9 rfl k) ?_
  refine hw_1 (fun k => x_aload_n dJ37_init_10 rfl k) ?_
  replace h := ga_ck_some h; obtain ⟨hc11_1, h⟩ := h
  refine hw_1 (fun k => x_getf (v := D2 x1 5) dJ37_init_11 fl_J37_13 hc11_1 rfl k) ?_
  replace h := ga_let_some h; obtain ⟨D14, eD14, h⟩ := h
  refine hw_set eD14 (Int.le_trans (by decide) (hkge_78 (h_kx hE2 hc2_0 (by decide)))) (by decide) (fun k => x_putf dJ37_init_14 fl_J37_19 rfl (h_kx hE2 hc2_0 (by decide)) (hkge_78 (h_kx hE2 hc2_0 (by decide))) trivial k) ?_
  have hP14 : h_P D14 := hP2.set eD14 (hkge_78 (h_kx hE2 hc2_0 (by decide))) (by decide) (hPn (h_kx hE2 hc2_0 (by decide)) rfl)
  have hE14 : h_E D2 D14 := h_E_set eD14 (by decide)
  refine hw_1 (fun k => x_aload_n dJ37_init_17 rfl k) ?_
  refine hw_1 (fun k => x_getf (v := D14 x1 2) dJ37_init_18 fl_J37_22 (h_kx hE14 hc11_1 (by decide)) rfl k) ?_
  replace h := ga_let_some h; obtain ⟨v21, ev21, h⟩ := h
  refine hw_nm ev21 ?_
  refine hw_1 (fun k => x_astore_n (ls' := [(2, (2, v21)), (0, (2, x0)), (1, (2, x1))]) dJ37_init_21 (by decide) rfl k) ?_
  refine hw_1 (fun k => x_aload_n dJ37_init_22 rfl k) ?_
  refine hw_1 (fun k => x_aload_n dJ37_init_23 rfl k) ?_
  refine hw_1 (fun k => x_null dJ37_init_24 k) ?_
  refine hw_1 (fun k => x_dup_x1 dJ37_init_25 rfl rfl k) ?_
  replace h := ga_let_some h; obtain ⟨D26, eD26, h⟩ := h
  refine hw_set eD26 (Int.le_trans (by decide) (hkge_78 (h_kx hE14 (h_kx hE2 hc2_0 (by decide)) (by decide)))) (by decide) (fun k => x_putf dJ37_init_26 fl_J37_26 rfl (h_kx hE14 (h_kx hE2 hc2_0 (by decide)) (by decide)) (hkge_78 (h_kx hE14 (h_kx hE2 hc2_0 (by decide)) (by decide))) trivial k) ?_
  have hP26 : h_P D26 := hP14.set eD26 (hkge_78 (h_kx hE14 (h_kx hE2 hc2_0 (by decide)) (by decide))) (by decide) (hPn (h_kx hE14 (h_kx hE2 hc2_0 (by decide)) (by decide)) rfl)
  have hE26 : h_E D14 D26 := h_E_set eD26 (by decide)
  replace h := ga_let_some h; obtain ⟨D29, eD29, h⟩ := h
  refine hw_set eD29 (Int.le_trans (by decide) (hkge_78 (h_kx hE26 (h_kx hE14 (h_kx hE2 hc2_0 (by decide)) (by decide)) (by decide)))) (by decide) (fun k => x_putf dJ37_init_29 fl_J37_30 rfl (h_kx hE26 (h_kx hE14 (h_kx hE2 hc2_0 (by decide)) (by decide)) (by decide)) (hkge_78 (h_kx hE26 (h_kx hE14 (h_kx hE2 hc2_0 (by decide)) (by decide)) (by decide))) trivial k) ?_
  have hP29 : h_P D29 := hP26.set eD29 (hkge_78 (h_kx hE26 (h_kx hE14 (h_kx hE2 hc2_0 (by decide)) (by decide)) (by decide))) (by decide) (hPn (h_kx hE26 (h_kx hE14 (h_kx hE2 hc2_0 (by decide)) (by decide)) (by decide)) rfl)
  have hE29 : h_E D26 D29 := h_E_set eD29 (by decide)
  refine hw_1 (fun k => x_aload_n dJ37_init_32 rfl k) ?_
  refine hw_1 (fun k => x_iconst dJ37_init_33 (by decide) k) ?_
  replace h := ga_let_some h; obtain ⟨D34, eD34, h⟩ := h
  refine hw_set eD34 (Int.le_trans (by decide) (hkge_78 (h_kx hE29 (h_kx hE26 (h_kx hE14 (h_kx hE2 hc2_0 (by decide)) (by decide)) (by decide)) (by decide)))) (by decide) (fun k => x_putf dJ37_init_34 fl_J37_33 rfl (h_kx hE29 (h_kx hE26 (h_kx hE14 (h_kx hE2 hc2_0 (by decide)) (by decide)) (by decide)) (by decide)) (hkge_78 (h_kx hE29 (h_kx hE26 (h_kx hE14 (h_kx hE2 hc2_0 (by decide)) (by decide)) (by decide)) (by decide))) trivial k) ?_
  have hP34 : h_P D34 := hP29.set eD34 (hkge_78 (h_kx hE29 (h_kx hE26 (h_kx hE14 (h_kx hE2 hc2_0 (by decide)) (by decide)) (by decide)) (by decide))) (by decide) (hPn (h_kx hE29 (h_kx hE26 (h_kx hE14 (h_kx hE2 hc2_0 (by decide)) (by decide)) (by decide)) (by decide)) rfl)
  have hE34 : h_E D29 D34 := h_E_set eD34 (by decide)
  refine hw_1 (fun k => x_aload_n dJ37_init_37 rfl k) ?_
  by_cases c38 : v21 = 0
  · rw [if_pos c38] at h
    refine hw_1 (fun k => x_ifnull (tgt := 78) dJ37_init_38 (by decide) (fun _ => k) (fun z => absurd c38 z)) ?_
    obtain ⟨rfl, rfl⟩ := ga_end h
    exact hw_ret hP34 (x_vret dJ37_init_78 rfl hq)
  · rw [if_neg c38] at h
    refine hw_1 (fun k => x_ifnull (tgt := 78) dJ37_init_38 (by decide) (fun z => absurd z c38) (fun _ => k)) ?_
    refine hw_1 (fun k => x_aload_n dJ37_init_41 rfl k) ?_
    refine hw_1 (fun k => x_getf (v := D34 x1 4) dJ37_init_42 fl_J37_36 (h_kx hE34 (h_kx hE29 (h_kx hE26 (h_kx hE14 hc11_1 (by decide)) (by decide)) (by decide)) (by decide)) rfl k) ?_
    by_cases c45 : D34 x1 4 ≤ 0
    · rw [if_pos c45] at h
      refine hw_1 (fun k => x_if_le (tgt := 78) dJ37_init_45 (by decide) (fun _ => k) (fun z => absurd c45 z)) ?_
      obtain ⟨rfl, rfl⟩ := ga_end h
      exact hw_ret hP34 (x_vret dJ37_init_78 rfl hq)
    · rw [if_neg c45] at h
      refine hw_1 (fun k => x_if_le (tgt := 78) dJ37_init_45 (by decide) (fun z => absurd z c45) (fun _ => k)) ?_
      refine hw_locs [1, 0] (ls' := [(0, (2, x0)), (2, (2, v21))]) rfl ?_
      refine h_J37_init_l48_ok hq (fun D78 hP h => ?_) hP34 h
      · obtain ⟨rfl, rfl⟩ := ga_end h
        exact hw_ret hP (x_vret dJ37_init_78 rfl hq)
theorem h_J38_init_ok {G : aw_G} {D D' : ga_D} {r : Int} {x0 x1 : Int} (hx0 : 0 < x0) (hP : h_P D) (h : h_J38_init x0 x1 D = some (r, D')) : aw_HR yJ38_init cJ38_init 2 none 2 G [(2, x0), (2, x1)] D none D' := by
  unfold h_J38_init at h
  refine hw_body (own := "java/util/HashMap$KeyIterator") (ini := true) (ls := [(0, (2, x0)), (1, (2, x1))]) rfl rfl (fun _ => rfl) (Nat.le_of_ble_eq_true rfl) rfl fun Q hq => ?_
  refine hw_1 (fun k => x_aload_n dJ38_init_0 rfl k) ?_
  refine hw_1 (fun k => x_aload_n dJ38_init_1 rfl k) ?_
  replace h := ga_bind_some h; obtain ⟨r2, D2, g2, h⟩ := h
  have hR2 := (h_J37_init_ok (G := G) hx0 hP g2)
  obtain ⟨hP2, hE2, -⟩ := id hR2
  refine hw_call (rest := []) hR2 (fun hc hk9 => x_callI0 (as := [(2, x1)]) (rest := []) dJ38_init_2 hc (lw_meth q4406) q495 q4404 q4405 hx0 rfl (show _ ∧ _ ∧ _ = some 1 from by decide +kernel) (by decide) (by decide) rfl (Nat.le_of_ble_eq_true rfl) hk9 aw_nox) ?_
  obtain ⟨rfl, rfl⟩ := ga_end h
  exact hw_ret hP2 (x_vret dJ38_init_5 rfl hq)
theorem h_J39_iterator_ok {G : aw_G} {D D' : ga_D} {r : Int} {x0 : Int} (hP : h_P D) (h : h_J39_iterator x0 D = some (r, D')) : aw_HR yJ39_iterator cJ39_iterator 1 (some (.object "java/util/Iterator")) 3 G [(2, x0)] D (some (2, r)) D' := by
  unfold h_J39_iterator at h
  refine hw_body (own := "java/util/HashMap$KeySet") (ini := false) (ls := [(0, (2, x0))]) rfl rfl (fun h => by cases h) (Nat.le_of_ble_eq_true rfl) rfl fun Q hq => ?_
  replace h := ga_let_some h; obtain ⟨z0, ez0, h⟩ := h
  replace h := ga_let_some h; obtain ⟨D0, eD0, h⟩ := h
  refine hy_new hP ez0 eD0 rfl rfl dJ39_iterator_0 rfl rfl q4399 q4400 q496 (fun hP0 hE0 hz0 hg0 => ?_)
  refine hw_1 (fun k => x_dup dJ39_iterator_3 rfl k) ?_
  refine hw_1 (fun k => x_aload_n dJ39_iterator_4 rfl k) ?_
  replace h := ga_ck_some h; obtain ⟨hc5_0, h⟩ := h
  refine hw_1 (fun k => x_getf (v := D0 x0 0) dJ39_iterator_5 fl_J39_1 hc5_0 rfl k) ?_
  replace h := ga_bind_some h; obtain ⟨r8, D8, g8, h⟩ := h
  have hR8 := (h_J38_init_ok (G := G) (hk_pos1 hz0 (by decide)) hP0 g8)
  obtain ⟨hP8, hE8, -⟩ := id hR8
  refine hw_call (rest := [(2, z0)]) hR8 (fun hc hk9 => x_callI (as := [(2, D0 x0 0)]) (rest := [(2, z0)]) dJ39_iterator_8 hc (lw_meth q4403) q496 q4401 q4402 hz0 rfl rfl (show _ ∧ _ ∧ _ = some 1 from by decide +kernel) (by decide) (by decide) rfl (Nat.le_of_ble_eq_true rfl) hk9 aw_nox) ?_
  obtain ⟨rfl, rfl⟩ := ga_end h
  exact hw_ret hP8 (x_aret dJ39_iterator_11 rfl (by first | exact Or.inl ⟨_, rfl⟩ | exact Or.inr ⟨_, rfl⟩) hq)
theorem h_J7_sub_ok {G : aw_G} {D D' : ga_D} {r : Int} {x0 x1 x2 : Int} (hP : h_P D) (h : h_J7_sub x0 x1 x2 D = some (r, D')) : aw_HR yJ7_sub cJ7_sub 3 (some (.int)) 0 G [(0, x0), (0, x1), (0, x2)] D (some (0, r)) D' := by
  unfold h_J7_sub at h
  refine hw_body (own := "java/util/ArrayDeque") (ini := false) (ls := [(0, (0, x0)), (1, (0, x1)), (2, (0, x2))]) rfl rfl (fun h => by cases h) (Nat.le_of_ble_eq_true rfl) rfl fun Q hq => ?_
  refine hw_1 (fun k => x_iload_n dJ7_sub_0 rfl k) ?_
  refine hw_1 (fun k => x_iload_n dJ7_sub_1 rfl k) ?_
  refine hw_1 (fun k => x_isub dJ7_sub_2 rfl k) ?_
  refine hw_1 (fun k => x_dup dJ7_sub_3 rfl k) ?_
  replace h := ga_let_some h; obtain ⟨v4, ev4, h⟩ := h
  refine hw_nm ev4 ?_
  refine hw_1 (fun k => x_istore_n (ls' := [(0, (0, v4)), (1, (0, x1)), (2, (0, x2))]) dJ7_sub_4 (by decide) rfl k) ?_
  by_cases c5 : 0 ≤ aw_w32 (x0 - x1)
  · rw [if_pos c5] at h
    refine hw_1 (fun k => x_if_ge (tgt := 12) dJ7_sub_5 (by decide) (fun _ => k) (fun z => absurd c5 z)) ?_
    refine hw_1 (fun k => x_iload_n dJ7_sub_12 rfl k) ?_
    obtain ⟨rfl, rfl⟩ := ga_end h
    exact hw_ret hP (x_iret dJ7_sub_13 rfl rfl trivial hq)
  · rw [if_neg c5] at h
    refine hw_1 (fun k => x_if_ge (tgt := 12) dJ7_sub_5 (by decide) (fun z => absurd z c5) (fun _ => k)) ?_
    refine hw_1 (fun k => x_iload_n dJ7_sub_8 rfl k) ?_
    refine hw_1 (fun k => x_iload_n dJ7_sub_9 rfl k) ?_
    refine hw_1 (fun k => x_iadd dJ7_sub_10 rfl k) ?_
    replace h := ga_let_some h; obtain ⟨v11, ev11, h⟩ := h
    refine hw_nm ev11 ?_
    refine hw_1 (fun k => x_istore_n (ls' := [(0, (0, v11)), (1, (0, x1)), (2, (0, x2))]) dJ7_sub_11 (by decide) rfl k) ?_
    refine hw_1 (fun k => x_iload_n dJ7_sub_12 rfl k) ?_
    obtain ⟨rfl, rfl⟩ := ga_end h
    exact hw_ret hP (x_iret dJ7_sub_13 rfl rfl trivial hq)
theorem h_J7_size_ok {G : aw_G} {D D' : ga_D} {r : Int} {x0 : Int} (hP : h_P D) (h : h_J7_size x0 D = some (r, D')) : aw_HR yJ7_size cJ7_size 1 (some (.int)) 1 G [(2, x0)] D (some (0, r)) D' := by
  unfold h_J7_size at h
  refine hw_body (own := "java/util/ArrayDeque") (ini := false) (ls := [(0, (2, x0))]) rfl rfl (fun h => by cases h) (Nat.le_of_ble_eq_true rfl) rfl fun Q hq => ?_
  refine hw_1 (fun k => x_aload_n dJ7_size_0 rfl k) ?_
  replace h := ga_ck_some h; obtain ⟨hc1_0, h⟩ := h
  refine hw_1 (fun k => x_getf (v := D x0 2) dJ7_size_1 fl_J7_20 hc1_0 rfl k) ?_
  refine hw_1 (fun k => x_aload_n dJ7_size_4 rfl k) ?_
  refine hw_1 (fun k => x_getf (v := D x0 1) dJ7_size_5 fl_J7_24 hc1_0 rfl k) ?_
  refine hw_1 (fun k => x_aload_n dJ7_size_8 rfl k) ?_
  refine hw_1 (fun k => x_getf (v := D x0 0) dJ7_size_9 fl_J7_3 hc1_0 rfl k) ?_
  replace h := ga_ck_some h; obtain ⟨hc12_1, h⟩ := h
  refine hw_1 (fun k => x_alen (t := 17) dJ7_size_12 (hk_p hc12_1) rfl k) ?_
  replace h := ga_bind_some h; obtain ⟨r13, D13, g13, h⟩ := h
  have hR13 := (h_J7_sub_ok (G := G) hP g13)
  obtain ⟨hP13, hE13, -⟩ := id hR13
  refine hw_call (rest := []) hR13 (fun hc hk9 => x_callS (as := [(0, D x0 2), (0, D x0 1), (0, (hk D (D x0 0)).2)]) (rest := []) dJ7_size_13 hc (lw_S q4571 q4572 q435 q4573) (show _ ∧ _ ∧ _ = some 3 from by decide +kernel) (by decide) (by decide) rfl (Nat.le_of_ble_eq_true rfl) hk9 aw_nox) ?_
  obtain ⟨rfl, rfl⟩ := ga_end h
  exact hw_ret hP13 (x_iret dJ7_size_16 rfl rfl trivial hq)
theorem h_J43_init_ok {G : aw_G} {D D' : ga_D} {r : Int} {x0 x1 : Int} (hx0 : 0 < x0) (hP : h_P D) (h : h_J43_init x0 x1 D = some (r, D')) : aw_HR yJ43_init cJ43_init 2 none 2 G [(2, x0), (2, x1)] D none D' := by
  unfold h_J43_init at h
  refine hw_body (own := "java/util/ArrayDeque$DeqIterator") (ini := true) (ls := [(0, (2, x0)), (1, (2, x1))]) rfl rfl (fun _ => rfl) (Nat.le_of_ble_eq_true rfl) rfl fun Q hq => ?_
  refine hw_1 (fun k => x_aload_n dJ43_init_0 rfl k) ?_
  refine hw_1 (fun k => x_aload_n dJ43_init_1 rfl k) ?_
  replace h := ga_ck_some h; obtain ⟨hc2_0, h⟩ := h
  replace h := ga_let_some h; obtain ⟨D2, eD2, h⟩ := h
  refine hw_set eD2 (Int.le_trans (by decide) (hkge_82 hc2_0)) (by decide) (fun k => x_putfF dJ43_init_2 fl_J43_1 rfl rfl hc2_0 (hkge_82 hc2_0) trivial k) ?_
  have hP2 : h_P D2 := hP.set eD2 (hkge_82 hc2_0) (by decide) (hPn hc2_0 rfl)
  have hE2 : h_E D D2 := h_E_set eD2 (by decide)
  refine hw_1 (fun k => x_aload_n dJ43_init_5 rfl k) ?_
  refine hw_1 (fun k => x_objInit dJ43_init_6 q4674 q512 q513 (h_kx hE2 hc2_0 (by decide)) rfl (by decide) (Nat.le_of_ble_eq_true rfl) k) ?_
  refine hw_1 (fun k => x_aload_n dJ43_init_9 rfl k) ?_
  refine hw_1 (fun k => x_aload_n dJ43_init_10 rfl k) ?_
  refine hw_1 (fun k => x_getf (v := D2 x0 3) dJ43_init_11 fl_J43_1 (h_kx hE2 hc2_0 (by decide)) rfl k) ?_
  replace h := ga_ck_some h; obtain ⟨hc14_1, h⟩ := h
  replace h := ga_bind_some h; obtain ⟨r14, D14, g14, h⟩ := h
  have hR14 := (h_J7_size_ok (G := G) hP2 g14)
  obtain ⟨hP14, hE14, -⟩ := id hR14
  refine hw_call (rest := [(2, x0)]) hR14 (fun hc hk9 => x_callV (as := []) (rest := [(2, x0)]) dJ43_init_14 hc (lw_V q4675 q4676 q4677 q435 q4678) hc14_1 rfl rfl (show _ ∧ _ ∧ _ ∧ _ = some 0 from by decide +kernel) (by decide) (by decide) rfl (Nat.le_of_ble_eq_true rfl) hk9 aw_nox) ?_
  replace h := ga_let_some h; obtain ⟨D17, eD17, h⟩ := h
  refine hw_set eD17 (Int.le_trans (by decide) (hkge_82 (h_kx hE14 (h_kx hE2 hc2_0 (by decide)) (by decide)))) (by decide) (fun k => x_putf dJ43_init_17 fl_J43_19 rfl (h_kx hE14 (h_kx hE2 hc2_0 (by decide)) (by decide)) (hkge_82 (h_kx hE14 (h_kx hE2 hc2_0 (by decide)) (by decide))) trivial k) ?_
  have hP17 : h_P D17 := hP14.set eD17 (hkge_82 (h_kx hE14 (h_kx hE2 hc2_0 (by decide)) (by decide))) (by decide) (hPn (h_kx hE14 (h_kx hE2 hc2_0 (by decide)) (by decide)) rfl)
  have hE17 : h_E D14 D17 := h_E_set eD17 (by decide)
  refine hw_1 (fun k => x_aload_n dJ43_init_20 rfl k) ?_
  refine hw_1 (fun k => x_iconst dJ43_init_21 (by decide) k) ?_
  replace h := ga_let_some h; obtain ⟨D22, eD22, h⟩ := h
  refine hw_set eD22 (Int.le_trans (by decide) (hkge_82 (h_kx hE17 (h_kx hE14 (h_kx hE2 hc2_0 (by decide)) (by decide)) (by decide)))) (by decide) (fun k => x_putf dJ43_init_22 fl_J43_23 rfl (h_kx hE17 (h_kx hE14 (h_kx hE2 hc2_0 (by decide)) (by decide)) (by decide)) (hkge_82 (h_kx hE17 (h_kx hE14 (h_kx hE2 hc2_0 (by decide)) (by decide)) (by decide))) trivial k) ?_
  have hP22 : h_P D22 := hP17.set eD22 (hkge_82 (h_kx hE17 (h_kx hE14 (h_kx hE2 hc2_0 (by decide)) (by decide)) (by decide))) (by decide) (hPn (h_kx hE17 (h_kx hE14 (h_kx hE2 hc2_0 (by decide)) (by decide)) (by decide)) rfl)
  have hE22 : h_E D17 D22 := h_E_set eD22 (by decide)
  refine hw_1 (fun k => x_aload_n dJ43_init_25 rfl k) ?_
  refine hw_1 (fun k => x_aload_n dJ43_init_26 rfl k) ?_
  replace h := ga_ck_some h; obtain ⟨hc27_2, h⟩ := h
  refine hw_1 (fun k => x_getf (v := D22 x1 1) dJ43_init_27 fl_J43_26 hc27_2 rfl k) ?_
  replace h := ga_let_some h; obtain ⟨D30, eD30, h⟩ := h
  refine hw_set eD30 (Int.le_trans (by decide) (hkge_82 (h_kx hE22 (h_kx hE17 (h_kx hE14 (h_kx hE2 hc2_0 (by decide)) (by decide)) (by decide)) (by decide)))) (by decide) (fun k => x_putf dJ43_init_30 fl_J43_29 rfl (h_kx hE22 (h_kx hE17 (h_kx hE14 (h_kx hE2 hc2_0 (by decide)) (by decide)) (by decide)) (by decide)) (hkge_82 (h_kx hE22 (h_kx hE17 (h_kx hE14 (h_kx hE2 hc2_0 (by decide)) (by decide)) (by decide)) (by decide))) trivial k) ?_
  have hP30 : h_P D30 := hP22.set eD30 (hkge_82 (h_kx hE22 (h_kx hE17 (h_kx hE14 (h_kx hE2 hc2_0 (by decide)) (by decide)) (by decide)) (by decide))) (by decide) (hPn (h_kx hE22 (h_kx hE17 (h_kx hE14 (h_kx hE2 hc2_0 (by decide)) (by decide)) (by decide)) (by decide)) rfl)
  have hE30 : h_E D22 D30 := h_E_set eD30 (by decide)
  obtain ⟨rfl, rfl⟩ := ga_end h
  exact hw_ret hP30 (x_vret dJ43_init_33 rfl hq)
theorem h_J7_iterator_ok {G : aw_G} {D D' : ga_D} {r : Int} {x0 : Int} (hP : h_P D) (h : h_J7_iterator x0 D = some (r, D')) : aw_HR yJ7_iterator cJ7_iterator 1 (some (.object "java/util/Iterator")) 3 G [(2, x0)] D (some (2, r)) D' := by
  unfold h_J7_iterator at h
  refine hw_body (own := "java/util/ArrayDeque") (ini := false) (ls := [(0, (2, x0))]) rfl rfl (fun h => by cases h) (Nat.le_of_ble_eq_true rfl) rfl fun Q hq => ?_
  replace h := ga_let_some h; obtain ⟨z0, ez0, h⟩ := h
  replace h := ga_let_some h; obtain ⟨D0, eD0, h⟩ := h
  refine hy_new hP ez0 eD0 rfl rfl dJ7_iterator_0 rfl rfl q4669 q4670 q502 (fun hP0 hE0 hz0 hg0 => ?_)
  refine hw_1 (fun k => x_dup dJ7_iterator_3 rfl k) ?_
  refine hw_1 (fun k => x_aload_n dJ7_iterator_4 rfl k) ?_
  replace h := ga_bind_some h; obtain ⟨r5, D5, g5, h⟩ := h
  have hR5 := (h_J43_init_ok (G := G) (hk_pos1 hz0 (by decide)) hP0 g5)
  obtain ⟨hP5, hE5, -⟩ := id hR5
  refine hw_call (rest := [(2, z0)]) hR5 (fun hc hk9 => x_callI (as := [(2, x0)]) (rest := [(2, z0)]) dJ7_iterator_5 hc (lw_meth q4673) q502 q4671 q4672 hz0 rfl rfl (show _ ∧ _ ∧ _ = some 1 from by decide +kernel) (by decide) (by decide) rfl (Nat.le_of_ble_eq_true rfl) hk9 aw_nox) ?_
  obtain ⟨rfl, rfl⟩ := ga_end h
  exact hw_ret hP5 (x_aret dJ7_iterator_8 rfl (by first | exact Or.inl ⟨_, rfl⟩ | exact Or.inr ⟨_, rfl⟩) hq)
theorem h_J8_init_ok {G : aw_G} {D D' : ga_D} {r : Int} {x0 : Int} (hx0 : 0 < x0) (hP : h_P D) (h : h_J8_init x0 D = some (r, D')) : aw_HR yJ8_init cJ8_init 1 none 2 G [(2, x0)] D none D' := by
  unfold h_J8_init at h
  refine hw_body (own := "java/util/AbstractSet") (ini := true) (ls := [(0, (2, x0))]) rfl rfl (fun _ => rfl) (Nat.le_of_ble_eq_true rfl) rfl fun Q hq => ?_
  refine hw_1 (fun k => x_aload_n dJ8_init_0 rfl k) ?_
  replace h := ga_bind_some h; obtain ⟨r1, D1, g1, h⟩ := h
  have hR1 := (h_J0_init_ok (G := G) hx0 hP g1)
  obtain ⟨hP1, hE1, -⟩ := id hR1
  refine hw_call (rest := []) hR1 (fun hc hk9 => x_callI0 (as := []) (rest := []) dJ8_init_1 hc (lw_meth q602) q399 q1823 q601 hx0 rfl (show _ ∧ _ ∧ _ = some 0 from by decide +kernel) (by decide) (by decide) rfl (Nat.le_of_ble_eq_true rfl) hk9 aw_nox) ?_
  obtain ⟨rfl, rfl⟩ := ga_end h
  exact hw_ret hP1 (x_vret dJ8_init_4 rfl hq)
theorem h_J39_init_ok {G : aw_G} {D D' : ga_D} {r : Int} {x0 x1 : Int} (hx0 : 0 < x0) (hP : h_P D) (h : h_J39_init x0 x1 D = some (r, D')) : aw_HR yJ39_init cJ39_init 2 none 3 G [(2, x0), (2, x1)] D none D' := by
  unfold h_J39_init at h
  refine hw_body (own := "java/util/HashMap$KeySet") (ini := true) (ls := [(0, (2, x0)), (1, (2, x1))]) rfl rfl (fun _ => rfl) (Nat.le_of_ble_eq_true rfl) rfl fun Q hq => ?_
  refine hw_1 (fun k => x_aload_n dJ39_init_0 rfl k) ?_
  refine hw_1 (fun k => x_aload_n dJ39_init_1 rfl k) ?_
  replace h := ga_ck_some h; obtain ⟨hc2_0, h⟩ := h
  replace h := ga_let_some h; obtain ⟨D2, eD2, h⟩ := h
  refine hw_set eD2 (Int.le_trans (by decide) (hkge_79 hc2_0)) (by decide) (fun k => x_putfF dJ39_init_2 fl_J39_1 rfl rfl hc2_0 (hkge_79 hc2_0) trivial k) ?_
  have hP2 : h_P D2 := hP.set eD2 (hkge_79 hc2_0) (by decide) (hPn hc2_0 rfl)
  have hE2 : h_E D D2 := h_E_set eD2 (by decide)
  refine hw_1 (fun k => x_aload_n dJ39_init_5 rfl k) ?_
  replace h := ga_bind_some h; obtain ⟨r6, D6, g6, h⟩ := h
  have hR6 := (h_J8_init_ok (G := G) hx0 hP2 g6)
  obtain ⟨hP6, hE6, -⟩ := id hR6
  refine hw_call (rest := []) hR6 (fun hc hk9 => x_callI0 (as := []) (rest := []) dJ39_init_6 hc (lw_meth q1822) q436 q4439 q1821 hx0 rfl (show _ ∧ _ ∧ _ = some 0 from by decide +kernel) (by decide) (by decide) rfl (Nat.le_of_ble_eq_true rfl) hk9 aw_nox) ?_
  obtain ⟨rfl, rfl⟩ := ga_end h
  exact hw_ret hP6 (x_vret dJ39_init_9 rfl hq)
theorem h_J10_keySet_ok {G : aw_G} {D D' : ga_D} {r : Int} {x0 : Int} (hP : h_P D) (h : h_J10_keySet x0 D = some (r, D')) : aw_HR yJ10_keySet cJ10_keySet 2 (some (.object "java/util/Set")) 4 G [(2, x0)] D (some (2, r)) D' := by
  unfold h_J10_keySet at h
  refine hw_body (own := "java/util/HashMap") (ini := false) (ls := [(0, (2, x0))]) rfl rfl (fun h => by cases h) (Nat.le_of_ble_eq_true rfl) rfl fun Q hq => ?_
  refine hw_1 (fun k => x_aload_n dJ10_keySet_0 rfl k) ?_
  replace h := ga_ck_some h; obtain ⟨hc1_0, h⟩ := h
  refine hw_1 (fun k => x_getf (v := D x0 0) dJ10_keySet_1 fl_J10_239 hc1_0 rfl k) ?_
  replace h := ga_let_some h; obtain ⟨v4, ev4, h⟩ := h
  refine hw_nm ev4 ?_
  refine hw_1 (fun k => x_astore_n (ls' := [(1, (2, v4)), (0, (2, x0))]) dJ10_keySet_4 (by decide) rfl k) ?_
  refine hw_1 (fun k => x_aload_n dJ10_keySet_5 rfl k) ?_
  by_cases c6 : v4 ≠ 0
  · rw [if_pos c6] at h
    refine hw_1 (fun k => x_ifnonnull (tgt := 23) dJ10_keySet_6 (by decide) (fun _ => k) (fun z => absurd c6 z)) ?_
    refine hw_1 (fun k => x_aload_n dJ10_keySet_23 rfl k) ?_
    obtain ⟨rfl, rfl⟩ := ga_end h
    exact hw_ret hP (x_aret dJ10_keySet_24 rfl (by first | exact Or.inl ⟨_, rfl⟩ | exact Or.inr ⟨_, rfl⟩) hq)
  · rw [if_neg c6] at h
    refine hw_1 (fun k => x_ifnonnull (tgt := 23) dJ10_keySet_6 (by decide) (fun z => absurd z c6) (fun _ => k)) ?_
    replace h := ga_let_some h; obtain ⟨z9, ez9, h⟩ := h
    replace h := ga_let_some h; obtain ⟨D9, eD9, h⟩ := h
    refine hy_new hP ez9 eD9 rfl rfl dJ10_keySet_9 rfl rfl q4434 q4435 q497 (fun hP9 hE9 hz9 hg9 => ?_)
    refine hw_1 (fun k => x_dup dJ10_keySet_12 rfl k) ?_
    refine hw_1 (fun k => x_aload_n dJ10_keySet_13 rfl k) ?_
    replace h := ga_bind_some h; obtain ⟨r14, D14, g14, h⟩ := h
    have hR14 := (h_J39_init_ok (G := G) (hk_pos1 hz9 (by decide)) hP9 g14)
    obtain ⟨hP14, hE14, -⟩ := id hR14
    refine hw_call (rest := [(2, z9)]) hR14 (fun hc hk9 => x_callI (as := [(2, x0)]) (rest := [(2, z9)]) dJ10_keySet_14 hc (lw_meth q4438) q497 q4436 q4437 hz9 rfl rfl (show _ ∧ _ ∧ _ = some 1 from by decide +kernel) (by decide) (by decide) rfl (Nat.le_of_ble_eq_true rfl) hk9 aw_nox) ?_
    refine hw_1 (fun k => x_astore_n (ls' := [(1, (2, z9)), (0, (2, x0))]) dJ10_keySet_17 (by decide) rfl k) ?_
    refine hw_1 (fun k => x_aload_n dJ10_keySet_18 rfl k) ?_
    refine hw_1 (fun k => x_aload_n dJ10_keySet_19 rfl k) ?_
    replace h := ga_let_some h; obtain ⟨D20, eD20, h⟩ := h
    refine hw_set eD20 (Int.le_trans (by decide) (hkge_64 (h_kx hE14 (h_kx hE9 hc1_0 (by decide)) (by decide)))) (by decide) (fun k => x_putf dJ10_keySet_20 fl_J10_239 rfl (h_kx hE14 (h_kx hE9 hc1_0 (by decide)) (by decide)) (hkge_64 (h_kx hE14 (h_kx hE9 hc1_0 (by decide)) (by decide))) trivial k) ?_
    have hP20 : h_P D20 := hP14.set eD20 (hkge_64 (h_kx hE14 (h_kx hE9 hc1_0 (by decide)) (by decide))) (by decide) (hPn (h_kx hE14 (h_kx hE9 hc1_0 (by decide)) (by decide)) rfl)
    have hE20 : h_E D14 D20 := h_E_set eD20 (by decide)
    refine hw_1 (fun k => x_aload_n dJ10_keySet_23 rfl k) ?_
    obtain ⟨rfl, rfl⟩ := ga_end h
    exact hw_ret hP20 (x_aret dJ10_keySet_24 rfl (by first | exact Or.inl ⟨_, rfl⟩ | exact Or.inr ⟨_, rfl⟩) hq)
theorem h_J9_iterator_ok {G : aw_G} {D D' : ga_D} {r : Int} {x0 : Int} (hP : h_P D) (h : h_J9_iterator x0 D = some (r, D')) : aw_HR yJ9_iterator cJ9_iterator 1 (some (.object "java/util/Iterator")) 5 G [(2, x0)] D (some (2, r)) D' := by
  unfold h_J9_iterator at h
  refine hw_body (own := "java/util/HashSet") (ini := false) (ls := [(0, (2, x0))]) rfl rfl (fun h => by cases h) (Nat.le_of_ble_eq_true rfl) rfl fun Q hq => ?_
  refine hw_1 (fun k => x_aload_n dJ9_iterator_0 rfl k) ?_
  replace h := ga_ck_some h; obtain ⟨hc1_0, h⟩ := h
  refine hw_1 (fun k => x_getf (v := D x0 0) dJ9_iterator_1 fl_J9_10 hc1_0 rfl k) ?_
  replace h := ga_ck_some h; obtain ⟨hc4_1, h⟩ := h
  replace h := ga_bind_some h; obtain ⟨r4, D4, g4, h⟩ := h
  have hR4 := (h_J10_keySet_ok (G := G) hP g4)
  obtain ⟨hP4, hE4, -⟩ := id hR4
  refine hw_call (rest := []) hR4 (fun hc hk9 => x_callV (as := []) (rest := []) dJ9_iterator_4 hc (lw_V q4430 q4431 q4432 q438 q4433) hc4_1 rfl rfl (show _ ∧ _ ∧ _ ∧ _ = some 0 from by decide +kernel) (by decide) (by decide) rfl (Nat.le_of_ble_eq_true rfl) hk9 aw_nox) ?_
  replace h := ga_bind_some h; obtain ⟨r7, D7, g7, h⟩ := h
  have hS7 : h_P D7 ∧ h_E D4 D7 ∧ ∃ mc ms : Nat, hn D4 + mc = hn D7 ∧ hsl D4 + ms = hsl D7 ∧ ∀ {c sl : Nat}, aw_W G "java/util/HashSet" cJ9_iterator (some (.object "java/util/Iterator")) 1 5 false (hM D) Q aw_no c sl 12 [(0, (2, x0))] [(2, r7)] (hM D7) → aw_W G "java/util/HashSet" cJ9_iterator (some (.object "java/util/Iterator")) 1 5 false (hM D) Q aw_no (c + mc) (sl + ms) 7 [(0, (2, x0))] [(2, r4)] (hM D4) := by
    by_cases w7_77 : hk D4 r4 = (77, 0)
    · rw [if_pos w7_77] at g7
      have hR := (h_J36_iterator_ok (G := G) hP4 g7)
      exact hw_callM (rest := []) hR (fun hc hk9 => x_callF (C := "java/util/TreeMap$EntrySet") (as := []) (rest := []) dJ9_iterator_7 hc q4451 q4445 (by decide +kernel) q4447 q4449 q494 q4450 q4448 q4446 w7_77 rfl rfl (show _ = some 0 from by decide +kernel) (by decide) (by decide) rfl (Nat.le_of_ble_eq_true rfl) hk9 aw_nox)
    rw [if_neg w7_77] at g7
    by_cases w7_79 : hk D4 r4 = (79, 0)
    · rw [if_pos w7_79] at g7
      have hR := (h_J39_iterator_ok (G := G) hP4 g7)
      exact hw_callM (rest := []) hR (fun hc hk9 => x_callF (C := "java/util/HashMap$KeySet") (as := []) (rest := []) dJ9_iterator_7 hc q4398 q4445 (by decide +kernel) q4394 q4396 q497 q4397 q4395 q4393 w7_79 rfl rfl (show _ = some 0 from by decide +kernel) (by decide) (by decide) rfl (Nat.le_of_ble_eq_true rfl) hk9 aw_nox)
    rw [if_neg w7_79] at g7
    exact absurd g7 (by intro h; cases h)
  obtain ⟨hP7, hE7, hS7⟩ := hS7
  refine hw_go ⟨hE7, hS7⟩ ?_
  obtain ⟨rfl, rfl⟩ := ga_end h
  exact hw_ret hP7 (x_aret dJ9_iterator_12 rfl (by first | exact Or.inl ⟨_, rfl⟩ | exact Or.inr ⟨_, rfl⟩) hq)
theorem h_J26_hasNext_ok {G : aw_G} {D D' : ga_D} {r : Int} {x0 : Int} (hP : h_P D) (h : h_J26_hasNext x0 D = some (r, D')) : aw_HR yJ26_hasNext cJ26_hasNext 1 (some (.boolean)) 0 G [(2, x0)] D (some (0, r)) D' := by
  unfold h_J26_hasNext at h
  refine hw_body (own := "java/util/ArrayList$Itr") (ini := false) (ls := [(0, (2, x0))]) rfl rfl (fun h => by cases h) (Nat.le_of_ble_eq_true rfl) rfl fun Q hq => ?_
  refine hw_1 (fun k => x_aload_n dJ26_hasNext_0 rfl k) ?_
  replace h := ga_ck_some h; obtain ⟨hc1_0, h⟩ := h
  refine hw_1 (fun k => x_getf (v := D x0 0) dJ26_hasNext_1 fl_J26_25 hc1_0 rfl k) ?_
  refine hw_1 (fun k => x_aload_n dJ26_hasNext_4 rfl k) ?_
  refine hw_1 (fun k => x_getf (v := D x0 3) dJ26_hasNext_5 fl_J26_1 hc1_0 rfl k) ?_
  replace h := ga_ck_some h; obtain ⟨hc8_1, h⟩ := h
  refine hw_1 (fun k => x_getfN (v := D (D x0 3) 2) dJ26_hasNext_8 fl_J26_28 hc8_1 rfl k) ?_
  by_cases c11 : D x0 0 = D (D x0 3) 2
  · rw [if_pos c11] at h
    refine hw_1 (fun k => x_icmp_eq (tgt := 18) dJ26_hasNext_11 (by decide) (fun _ => k) (fun z => absurd c11 z)) ?_
    refine hw_1 (fun k => x_iconst dJ26_hasNext_18 (by decide) k) ?_
    obtain ⟨rfl, rfl⟩ := ga_end h
    exact hw_ret hP (x_iret dJ26_hasNext_19 rfl rfl (show (0 : Int) ≤ 0 ∧ (0 : Int) < 2 from by decide) hq)
  · rw [if_neg c11] at h
    refine hw_1 (fun k => x_icmp_eq (tgt := 18) dJ26_hasNext_11 (by decide) (fun z => absurd z c11) (fun _ => k)) ?_
    refine hw_1 (fun k => x_iconst dJ26_hasNext_14 (by decide) k) ?_
    refine hw_1 (fun k => x_goto (tgt := 19) dJ26_hasNext_15 (by decide) k) ?_
    obtain ⟨rfl, rfl⟩ := ga_end h
    exact hw_ret hP (x_iret dJ26_hasNext_19 rfl rfl (show (0 : Int) ≤ 1 ∧ (1 : Int) < 2 from by decide) hq)
theorem h_J37_hasNext_ok {G : aw_G} {D D' : ga_D} {r : Int} {x0 : Int} (hP : h_P D) (h : h_J37_hasNext x0 D = some (r, D')) : aw_HR yJ37_hasNext cJ37_hasNext 1 (some (.boolean)) 0 G [(2, x0)] D (some (0, r)) D' := by
  unfold h_J37_hasNext at h
  refine hw_body (own := "java/util/HashMap$HashIterator") (ini := false) (ls := [(0, (2, x0))]) rfl rfl (fun h => by cases h) (Nat.le_of_ble_eq_true rfl) rfl fun Q hq => ?_
  refine hw_1 (fun k => x_aload_n dJ37_hasNext_0 rfl k) ?_
  replace h := ga_ck_some h; obtain ⟨hc1_0, h⟩ := h
  refine hw_1 (fun k => x_getf (v := D x0 0) dJ37_hasNext_1 fl_J37_26 hc1_0 rfl k) ?_
  by_cases c4 : D x0 0 = 0
  · rw [if_pos c4] at h
    refine hw_1 (fun k => x_ifnull (tgt := 11) dJ37_hasNext_4 (by decide) (fun _ => k) (fun z => absurd c4 z)) ?_
    refine hw_1 (fun k => x_iconst dJ37_hasNext_11 (by decide) k) ?_
    obtain ⟨rfl, rfl⟩ := ga_end h
    exact hw_ret hP (x_iret dJ37_hasNext_12 rfl rfl (show (0 : Int) ≤ 0 ∧ (0 : Int) < 2 from by decide) hq)
  · rw [if_neg c4] at h
    refine hw_1 (fun k => x_ifnull (tgt := 11) dJ37_hasNext_4 (by decide) (fun z => absurd z c4) (fun _ => k)) ?_
    refine hw_1 (fun k => x_iconst dJ37_hasNext_7 (by decide) k) ?_
    refine hw_1 (fun k => x_goto (tgt := 12) dJ37_hasNext_8 (by decide) k) ?_
    obtain ⟨rfl, rfl⟩ := ga_end h
    exact hw_ret hP (x_iret dJ37_hasNext_12 rfl rfl (show (0 : Int) ≤ 1 ∧ (1 : Int) < 2 from by decide) hq)
theorem h_J40_hasNext_ok {G : aw_G} {D D' : ga_D} {r : Int} {x0 : Int} (hP : h_P D) (h : h_J40_hasNext x0 D = some (r, D')) : aw_HR yJ40_hasNext cJ40_hasNext 1 (some (.boolean)) 0 G [(2, x0)] D (some (0, r)) D' := by
  unfold h_J40_hasNext at h
  refine hw_body (own := "java/util/TreeMap$PrivateEntryIterator") (ini := false) (ls := [(0, (2, x0))]) rfl rfl (fun h => by cases h) (Nat.le_of_ble_eq_true rfl) rfl fun Q hq => ?_
  refine hw_1 (fun k => x_aload_n dJ40_hasNext_0 rfl k) ?_
  replace h := ga_ck_some h; obtain ⟨hc1_0, h⟩ := h
  refine hw_1 (fun k => x_getf (v := D x0 0) dJ40_hasNext_1 fl_J40_26 hc1_0 rfl k) ?_
  by_cases c4 : D x0 0 = 0
  · rw [if_pos c4] at h
    refine hw_1 (fun k => x_ifnull (tgt := 11) dJ40_hasNext_4 (by decide) (fun _ => k) (fun z => absurd c4 z)) ?_
    refine hw_1 (fun k => x_iconst dJ40_hasNext_11 (by decide) k) ?_
    obtain ⟨rfl, rfl⟩ := ga_end h
    exact hw_ret hP (x_iret dJ40_hasNext_12 rfl rfl (show (0 : Int) ≤ 0 ∧ (0 : Int) < 2 from by decide) hq)
  · rw [if_neg c4] at h
    refine hw_1 (fun k => x_ifnull (tgt := 11) dJ40_hasNext_4 (by decide) (fun z => absurd z c4) (fun _ => k)) ?_
    refine hw_1 (fun k => x_iconst dJ40_hasNext_7 (by decide) k) ?_
    refine hw_1 (fun k => x_goto (tgt := 12) dJ40_hasNext_8 (by decide) k) ?_
    obtain ⟨rfl, rfl⟩ := ga_end h
    exact hw_ret hP (x_iret dJ40_hasNext_12 rfl rfl (show (0 : Int) ≤ 1 ∧ (1 : Int) < 2 from by decide) hq)
theorem h_J43_hasNext_ok {G : aw_G} {D D' : ga_D} {r : Int} {x0 : Int} (hP : h_P D) (h : h_J43_hasNext x0 D = some (r, D')) : aw_HR yJ43_hasNext cJ43_hasNext 1 (some (.boolean)) 0 G [(2, x0)] D (some (0, r)) D' := by
  unfold h_J43_hasNext at h
  refine hw_body (own := "java/util/ArrayDeque$DeqIterator") (ini := false) (ls := [(0, (2, x0))]) rfl rfl (fun h => by cases h) (Nat.le_of_ble_eq_true rfl) rfl fun Q hq => ?_
  refine hw_1 (fun k => x_aload_n dJ43_hasNext_0 rfl k) ?_
  replace h := ga_ck_some h; obtain ⟨hc1_0, h⟩ := h
  refine hw_1 (fun k => x_getf (v := D x0 1) dJ43_hasNext_1 fl_J43_19 hc1_0 rfl k) ?_
  by_cases c4 : D x0 1 ≤ 0
  · rw [if_pos c4] at h
    refine hw_1 (fun k => x_if_le (tgt := 11) dJ43_hasNext_4 (by decide) (fun _ => k) (fun z => absurd c4 z)) ?_
    refine hw_1 (fun k => x_iconst dJ43_hasNext_11 (by decide) k) ?_
    obtain ⟨rfl, rfl⟩ := ga_end h
    exact hw_ret hP (x_iret dJ43_hasNext_12 rfl rfl (show (0 : Int) ≤ 0 ∧ (0 : Int) < 2 from by decide) hq)
  · rw [if_neg c4] at h
    refine hw_1 (fun k => x_if_le (tgt := 11) dJ43_hasNext_4 (by decide) (fun z => absurd z c4) (fun _ => k)) ?_
    refine hw_1 (fun k => x_iconst dJ43_hasNext_7 (by decide) k) ?_
    refine hw_1 (fun k => x_goto (tgt := 12) dJ43_hasNext_8 (by decide) k) ?_
    obtain ⟨rfl, rfl⟩ := ga_end h
    exact hw_ret hP (x_iret dJ43_hasNext_12 rfl rfl (show (0 : Int) ≤ 1 ∧ (1 : Int) < 2 from by decide) hq)
theorem h_J26_checkForComodification_ok {G : aw_G} {D D' : ga_D} {r : Int} {x0 : Int} (hP : h_P D) (h : h_J26_checkForComodification x0 D = some (r, D')) : aw_HR yJ26_checkForComodification cJ26_checkForComodification 1 none 0 G [(2, x0)] D none D' := by
  unfold h_J26_checkForComodification at h
  refine hw_body (own := "java/util/ArrayList$Itr") (ini := false) (ls := [(0, (2, x0))]) rfl rfl (fun h => by cases h) (Nat.le_of_ble_eq_true rfl) rfl fun Q hq => ?_
  refine hw_1 (fun k => x_aload_n dJ26_checkForComodification_0 rfl k) ?_
  replace h := ga_ck_some h; obtain ⟨hc1_0, h⟩ := h
  refine hw_1 (fun k => x_getf (v := D x0 3) dJ26_checkForComodification_1 fl_J26_1 hc1_0 rfl k) ?_
  replace h := ga_ck_some h; obtain ⟨hc4_1, h⟩ := h
  refine hw_1 (fun k => x_getf (v := D (D x0 3) 0) dJ26_checkForComodification_4 fl_J26_17 hc4_1 rfl k) ?_
  refine hw_1 (fun k => x_aload_n dJ26_checkForComodification_7 rfl k) ?_
  refine hw_1 (fun k => x_getf (v := D x0 2) dJ26_checkForComodification_8 fl_J26_22 hc1_0 rfl k) ?_
  by_cases c11 : D (D x0 3) 0 = D x0 2
  · rw [if_pos c11] at h
    refine hw_1 (fun k => x_icmp_eq (tgt := 22) dJ26_checkForComodification_11 (by decide) (fun _ => k) (fun z => absurd c11 z)) ?_
    obtain ⟨rfl, rfl⟩ := ga_end h
    exact hw_ret hP (x_vret dJ26_checkForComodification_22 rfl hq)
  · rw [if_neg c11] at h
    refine hw_1 (fun k => x_icmp_eq (tgt := 22) dJ26_checkForComodification_11 (by decide) (fun z => absurd z c11) (fun _ => k)) ?_
    replace h := ga_let_some h; obtain ⟨z14, ez14, h⟩ := h
    replace h := ga_let_some h; obtain ⟨D14, eD14, h⟩ := h
    refine hy_new hP ez14 eD14 rfl rfl dJ26_checkForComodification_14 rfl rfl q4598 q4599 q501 (fun hP14 hE14 hz14 hg14 => ?_)
    refine hw_1 (fun k => x_dup dJ26_checkForComodification_17 rfl k) ?_
    exact absurd h (by intro h; cases h)
theorem h_J26_next_ok {G : aw_G} {D D' : ga_D} {r : Int} {x0 : Int} (hP : h_P D) (h : h_J26_next x0 D = some (r, D')) : aw_HR yJ26_next cJ26_next 3 (some (.object "java/lang/Object")) 1 G [(2, x0)] D (some (2, r)) D' := by
  unfold h_J26_next at h
  refine hw_body (own := "java/util/ArrayList$Itr") (ini := false) (ls := [(0, (2, x0))]) rfl rfl (fun h => by cases h) (Nat.le_of_ble_eq_true rfl) rfl fun Q hq => ?_
  refine hw_1 (fun k => x_aload_n dJ26_next_0 rfl k) ?_
  replace h := ga_ck_some h; obtain ⟨hc1_0, h⟩ := h
  replace h := ga_bind_some h; obtain ⟨r1, D1, g1, h⟩ := h
  have hR1 := (h_J26_checkForComodification_ok (G := G) hP g1)
  obtain ⟨hP1, hE1, -⟩ := id hR1
  refine hw_call (rest := []) hR1 (fun hc hk9 => x_callV (as := []) (rest := []) dJ26_next_1 hc (lw_V q3012 q3013 q3014 q477 q3015) hc1_0 rfl rfl (show _ ∧ _ ∧ _ ∧ _ = some 0 from by decide +kernel) (by decide) (by decide) rfl (Nat.le_of_ble_eq_true rfl) hk9 aw_nox) ?_
  refine hw_1 (fun k => x_aload_n dJ26_next_4 rfl k) ?_
  refine hw_1 (fun k => x_getf (v := D1 x0 0) dJ26_next_5 fl_J26_25 (h_kx hE1 hc1_0 (by decide)) rfl k) ?_
  replace h := ga_let_some h; obtain ⟨v8, ev8, h⟩ := h
  refine hw_nm ev8 ?_
  refine hw_1 (fun k => x_istore_n (ls' := [(1, (0, v8)), (0, (2, x0))]) dJ26_next_8 (by decide) rfl k) ?_
  refine hw_1 (fun k => x_iload_n dJ26_next_9 rfl k) ?_
  refine hw_1 (fun k => x_aload_n dJ26_next_10 rfl k) ?_
  refine hw_1 (fun k => x_getf (v := D1 x0 3) dJ26_next_11 fl_J26_1 (h_kx hE1 hc1_0 (by decide)) rfl k) ?_
  replace h := ga_ck_some h; obtain ⟨hc14_1, h⟩ := h
  refine hw_1 (fun k => x_getfN (v := D1 (D1 x0 3) 2) dJ26_next_14 fl_J26_28 hc14_1 rfl k) ?_
  by_cases c17 : v8 < D1 (D1 x0 3) 2
  · rw [if_pos c17] at h
    refine hw_1 (fun k => x_icmp_lt (tgt := 28) dJ26_next_17 (by decide) (fun _ => k) (fun z => absurd c17 z)) ?_
    refine hw_1 (fun k => x_aload_n dJ26_next_28 rfl k) ?_
    refine hw_1 (fun k => x_getf (v := D1 x0 3) dJ26_next_29 fl_J26_1 (h_kx hE1 hc1_0 (by decide)) rfl k) ?_
    refine hw_1 (fun k => x_getf (v := D1 (D1 x0 3) 1) dJ26_next_32 fl_J26_37 hc14_1 rfl k) ?_
    replace h := ga_let_some h; obtain ⟨v35, ev35, h⟩ := h
    refine hw_nm ev35 ?_
    refine hw_1 (fun k => x_astore_n (ls' := [(2, (2, v35)), (1, (0, v8)), (0, (2, x0))]) dJ26_next_35 (by decide) rfl k) ?_
    refine hw_1 (fun k => x_iload_n dJ26_next_36 rfl k) ?_
    refine hw_1 (fun k => x_aload_n dJ26_next_37 rfl k) ?_
    replace h := ga_ck_some h; obtain ⟨hc38_0, h⟩ := h
    refine hw_1 (fun k => x_alen (t := 17) dJ26_next_38 (hk_p hc38_0) rfl k) ?_
    by_cases c39 : v8 < (hk D1 v35).2
    · rw [if_pos c39] at h
      refine hw_1 (fun k => x_icmp_lt (tgt := 50) dJ26_next_39 (by decide) (fun _ => k) (fun z => absurd c39 z)) ?_
      refine hw_1 (fun k => x_aload_n dJ26_next_50 rfl k) ?_
      refine hw_1 (fun k => x_iload_n dJ26_next_51 rfl k) ?_
      refine hw_1 (fun k => x_iconst dJ26_next_52 (by decide) k) ?_
      refine hw_1 (fun k => x_iadd dJ26_next_53 rfl k) ?_
      replace h := ga_let_some h; obtain ⟨D54, eD54, h⟩ := h
      refine hw_set eD54 (Int.le_trans (by decide) (hkge_71 (h_kx hE1 hc1_0 (by decide)))) (by decide) (fun k => x_putf dJ26_next_54 fl_J26_25 rfl (h_kx hE1 hc1_0 (by decide)) (hkge_71 (h_kx hE1 hc1_0 (by decide))) trivial k) ?_
      have hP54 : h_P D54 := hP1.set eD54 (hkge_71 (h_kx hE1 hc1_0 (by decide))) (by decide) (hPn (h_kx hE1 hc1_0 (by decide)) rfl)
      have hE54 : h_E D1 D54 := h_E_set eD54 (by decide)
      refine hw_1 (fun k => x_aload_n dJ26_next_57 rfl k) ?_
      refine hw_1 (fun k => x_aload_n dJ26_next_58 rfl k) ?_
      refine hw_1 (fun k => x_iload_n dJ26_next_59 rfl k) ?_
      refine hw_1 (fun k => x_dup_x1 dJ26_next_60 rfl rfl k) ?_
      replace h := ga_let_some h; obtain ⟨D61, eD61, h⟩ := h
      refine hw_set eD61 (Int.le_trans (by decide) (hkge_71 (h_kx hE54 (h_kx hE1 hc1_0 (by decide)) (by decide)))) (by decide) (fun k => x_putf dJ26_next_61 fl_J26_13 rfl (h_kx hE54 (h_kx hE1 hc1_0 (by decide)) (by decide)) (hkge_71 (h_kx hE54 (h_kx hE1 hc1_0 (by decide)) (by decide))) trivial k) ?_
      have hP61 : h_P D61 := hP54.set eD61 (hkge_71 (h_kx hE54 (h_kx hE1 hc1_0 (by decide)) (by decide))) (by decide) (hPn (h_kx hE54 (h_kx hE1 hc1_0 (by decide)) (by decide)) rfl)
      have hE61 : h_E D54 D61 := h_E_set eD61 (by decide)
      replace h := ga_ck_some h; obtain ⟨hc64_0, h⟩ := h
      refine hw_1 (fun k => x_aald (t := 17) (v := D61 v35 v8) dJ26_next_64 (h_kx hE61 (h_kx hE54 (hk_p hc38_0) (by decide)) (by decide)) rfl rfl hc64_0.1 hc64_0.2 rfl k) ?_
      obtain ⟨rfl, rfl⟩ := ga_end h
      exact hw_ret hP61 (x_aret dJ26_next_65 rfl (by first | exact Or.inl ⟨_, rfl⟩ | exact Or.inr ⟨_, rfl⟩) hq)
    · rw [if_neg c39] at h
      refine hw_1 (fun k => x_icmp_lt (tgt := 50) dJ26_next_39 (by decide) (fun z => absurd z c39) (fun _ => k)) ?_
      replace h := ga_let_some h; obtain ⟨z42, ez42, h⟩ := h
      replace h := ga_let_some h; obtain ⟨D42, eD42, h⟩ := h
      refine hy_new hP1 ez42 eD42 rfl rfl dJ26_next_42 rfl rfl q4598 q4599 q501 (fun hP42 hE42 hz42 hg42 => ?_)
      refine hw_1 (fun k => x_dup dJ26_next_45 rfl k) ?_
      exact absurd h (by intro h; cases h)
  · rw [if_neg c17] at h
    refine hw_1 (fun k => x_icmp_lt (tgt := 28) dJ26_next_17 (by decide) (fun z => absurd z c17) (fun _ => k)) ?_
    exact absurd h (by intro h; cases h)
theorem h_J37_nextNode_l68_ok {G : aw_G} {M0 : aw_M} {D' : ga_D} {Q : Option aw_V → aw_M → Prop} {r : Int} (hq : Q (some (2, r)) (hM D')) {k98 : Int → ga_D → ga_S} (hk98 : ∀ (x2 : Int) (D : ga_D), h_P D → k98 x2 D = some (r, D') → aw_HW G "java/util/HashMap$HashIterator" cJ37_nextNode (some (.object "java/util/HashMap$Node")) 3 0 false M0 Q aw_no D' (hn D') (hsl D') 98 [(2, (2, x2))] [] D) : ∀ {n : Nat} {x0 x1 x2 : Int} {D : ga_D}, h_P D → h_J37_nextNode_l68 n x0 x1 x2 D k98 = some (r, D') → aw_HW G "java/util/HashMap$HashIterator" cJ37_nextNode (some (.object "java/util/HashMap$Node")) 3 0 false M0 Q aw_no D' (hn D') (hsl D') 68 [(0, (2, x0)), (1, (2, x1)), (2, (2, x2))] [] D := by
  intro n
  induction n with
  | zero => intro x0 x1 x2 D hP h; exact absurd (h : (none : ga_S) = some (r, D')) (by intro h; cases h)
  | succ n ih =>
    intro x0 x1 x2 D hP h
    have ih : ∀ (x0 x1 x2 : Int) (D : ga_D), h_P D → h_J37_nextNode_l68 n x0 x1 x2 D k98 = some (r, D') → aw_HW G "java/util/HashMap$HashIterator" cJ37_nextNode (some (.object "java/util/HashMap$Node")) 3 0 false M0 Q aw_no D' (hn D') (hsl D') 68 [(0, (2, x0)), (1, (2, x1)), (2, (2, x2))] [] D := fun x0 x1 x2 D hP h => ih hP h
    replace h : (ga_ck (hk D x0 = (78, 0)) (ga_ck ((hk D x1).1 = 1018) (if (hk D x1).2 ≤ D x0 3 then (k98 x2 D) else (ga_let (ga_set D x0 3 (aw_w32 ((D x0 3) + 1))) (fun D87 => ga_ck (0 ≤ D x0 3 ∧ D x0 3 < (hk D x1).2) (ga_let (ga_set D87 x0 0 (D87 x1 (D x0 3))) (fun D92 => if D87 x1 (D x0 3) = 0 then (h_J37_nextNode_l68 n x0 x1 x2 D92 k98) else (k98 x2 D92))))))) : ga_S) = some (r, D') := h
    refine hw_1 (fun k => x_aload_n dJ37_nextNode_68 rfl k) ?_
    replace h := ga_ck_some h; obtain ⟨hc69_0, h⟩ := h
    refine hw_1 (fun k => x_getf (v := D x0 3) dJ37_nextNode_69 fl_J37_33 hc69_0 rfl k) ?_
    refine hw_1 (fun k => x_aload_n dJ37_nextNode_72 rfl k) ?_
    replace h := ga_ck_some h; obtain ⟨hc73_1, h⟩ := h
    refine hw_1 (fun k => x_alen (t := 18) dJ37_nextNode_73 (hk_p hc73_1) rfl k) ?_
    by_cases c74 : (hk D x1).2 ≤ D x0 3
    · rw [if_pos c74] at h
      refine hw_1 (fun k => x_icmp_ge (tgt := 98) dJ37_nextNode_74 (by decide) (fun _ => k) (fun z => absurd c74 z)) ?_
      refine hw_locs [2] (ls' := [(2, (2, x2))]) rfl ?_
      exact hk98 _ _ hP h
    · rw [if_neg c74] at h
      refine hw_1 (fun k => x_icmp_ge (tgt := 98) dJ37_nextNode_74 (by decide) (fun z => absurd z c74) (fun _ => k)) ?_
      refine hw_1 (fun k => x_aload_n dJ37_nextNode_77 rfl k) ?_
      refine hw_1 (fun k => x_aload_n dJ37_nextNode_78 rfl k) ?_
      refine hw_1 (fun k => x_aload_n dJ37_nextNode_79 rfl k) ?_
      refine hw_1 (fun k => x_dup dJ37_nextNode_80 rfl k) ?_
      refine hw_1 (fun k => x_getf (v := D x0 3) dJ37_nextNode_81 fl_J37_33 hc69_0 rfl k) ?_
      refine hw_1 (fun k => x_dup_x1 dJ37_nextNode_84 rfl rfl k) ?_
      refine hw_1 (fun k => x_iconst dJ37_nextNode_85 (by decide) k) ?_
      refine hw_1 (fun k => x_iadd dJ37_nextNode_86 rfl k) ?_
      replace h := ga_let_some h; obtain ⟨D87, eD87, h⟩ := h
      refine hw_set eD87 (Int.le_trans (by decide) (hkge_78 hc69_0)) (by decide) (fun k => x_putf dJ37_nextNode_87 fl_J37_33 rfl hc69_0 (hkge_78 hc69_0) trivial k) ?_
      have hP87 : h_P D87 := hP.set eD87 (hkge_78 hc69_0) (by decide) (hPn hc69_0 rfl)
      have hE87 : h_E D D87 := h_E_set eD87 (by decide)
      replace h := ga_ck_some h; obtain ⟨hc90_0, h⟩ := h
      refine hw_1 (fun k => x_aald (t := 18) (v := D87 x1 (D x0 3)) dJ37_nextNode_90 (h_kx hE87 (hk_p hc73_1) (by decide)) rfl rfl hc90_0.1 hc90_0.2 rfl k) ?_
      refine hw_1 (fun k => x_dup_x1 dJ37_nextNode_91 rfl rfl k) ?_
      replace h := ga_let_some h; obtain ⟨D92, eD92, h⟩ := h
      refine hw_set eD92 (Int.le_trans (by decide) (hkge_78 (h_kx hE87 hc69_0 (by decide)))) (by decide) (fun k => x_putf dJ37_nextNode_92 fl_J37_26 rfl (h_kx hE87 hc69_0 (by decide)) (hkge_78 (h_kx hE87 hc69_0 (by decide))) trivial k) ?_
      have hP92 : h_P D92 := hP87.set eD92 (hkge_78 (h_kx hE87 hc69_0 (by decide))) (by decide) (hPn (h_kx hE87 hc69_0 (by decide)) rfl)
      have hE92 : h_E D87 D92 := h_E_set eD92 (by decide)
      by_cases c95 : D87 x1 (D x0 3) = 0
      · rw [if_pos c95] at h
        refine hw_1 (fun k => x_ifnull (tgt := 68) dJ37_nextNode_95 (by decide) (fun _ => k) (fun z => absurd c95 z)) ?_
        exact ih _ _ _ _ hP92 h
      · rw [if_neg c95] at h
        refine hw_1 (fun k => x_ifnull (tgt := 68) dJ37_nextNode_95 (by decide) (fun z => absurd z c95) (fun _ => k)) ?_
        refine hw_locs [2] (ls' := [(2, (2, x2))]) rfl ?_
        exact hk98 _ _ hP92 h
theorem h_J37_nextNode_ok {G : aw_G} {D D' : ga_D} {r : Int} {x0 : Int} (hP : h_P D) (h : h_J37_nextNode x0 D = some (r, D')) : aw_HR yJ37_nextNode cJ37_nextNode 3 (some (.object "java/util/HashMap$Node")) 0 G [(2, x0)] D (some (2, r)) D' := by
  unfold h_J37_nextNode at h
  refine hw_body (own := "java/util/HashMap$HashIterator") (ini := false) (ls := [(0, (2, x0))]) rfl rfl (fun h => by cases h) (Nat.le_of_ble_eq_true rfl) rfl fun Q hq => ?_
  refine hw_1 (fun k => x_aload_n dJ37_nextNode_0 rfl k) ?_
  replace h := ga_ck_some h; obtain ⟨hc1_0, h⟩ := h
  refine hw_1 (fun k => x_getf (v := D x0 0) dJ37_nextNode_1 fl_J37_26 hc1_0 rfl k) ?_
  replace h := ga_let_some h; obtain ⟨v4, ev4, h⟩ := h
  refine hw_nm ev4 ?_
  refine hw_1 (fun k => x_astore_n (ls' := [(2, (2, v4)), (0, (2, x0))]) dJ37_nextNode_4 (by decide) rfl k) ?_
  refine hw_1 (fun k => x_aload_n dJ37_nextNode_5 rfl k) ?_
  refine hw_1 (fun k => x_getf (v := D x0 4) dJ37_nextNode_6 fl_J37_1 hc1_0 rfl k) ?_
  replace h := ga_ck_some h; obtain ⟨hc9_1, h⟩ := h
  refine hw_1 (fun k => x_getf (v := D (D x0 4) 5) dJ37_nextNode_9 fl_J37_13 hc9_1 rfl k) ?_
  refine hw_1 (fun k => x_aload_n dJ37_nextNode_12 rfl k) ?_
  refine hw_1 (fun k => x_getf (v := D x0 2) dJ37_nextNode_13 fl_J37_19 hc1_0 rfl k) ?_
  by_cases c16 : D (D x0 4) 5 = D x0 2
  · rw [if_pos c16] at h
    refine hw_1 (fun k => x_icmp_eq (tgt := 27) dJ37_nextNode_16 (by decide) (fun _ => k) (fun z => absurd c16 z)) ?_
    refine hw_1 (fun k => x_aload_n dJ37_nextNode_27 rfl k) ?_
    by_cases c28 : v4 ≠ 0
    · rw [if_pos c28] at h
      refine hw_1 (fun k => x_ifnonnull (tgt := 39) dJ37_nextNode_28 (by decide) (fun _ => k) (fun z => absurd c28 z)) ?_
      refine hw_1 (fun k => x_aload_n dJ37_nextNode_39 rfl k) ?_
      refine hw_1 (fun k => x_aload_n dJ37_nextNode_40 rfl k) ?_
      refine hw_1 (fun k => x_aload_n dJ37_nextNode_41 rfl k) ?_
      refine hw_1 (fun k => x_dup_x1 dJ37_nextNode_42 rfl rfl k) ?_
      replace h := ga_let_some h; obtain ⟨D43, eD43, h⟩ := h
      refine hw_set eD43 (Int.le_trans (by decide) (hkge_78 hc1_0)) (by decide) (fun k => x_putf dJ37_nextNode_43 fl_J37_30 rfl hc1_0 (hkge_78 hc1_0) trivial k) ?_
      have hP43 : h_P D43 := hP.set eD43 (hkge_78 hc1_0) (by decide) (hPn hc1_0 rfl)
      have hE43 : h_E D D43 := h_E_set eD43 (by decide)
      replace h := ga_ck_some h; obtain ⟨hc46_0, h⟩ := h
      refine hw_1 (fun k => x_getf (v := D43 v4 3) dJ37_nextNode_46 fl_J37_45 hc46_0 rfl k) ?_
      refine hw_1 (fun k => x_dup_x1 dJ37_nextNode_49 rfl rfl k) ?_
      replace h := ga_let_some h; obtain ⟨D50, eD50, h⟩ := h
      refine hw_set eD50 (Int.le_trans (by decide) (hkge_78 (h_kx hE43 hc1_0 (by decide)))) (by decide) (fun k => x_putf dJ37_nextNode_50 fl_J37_26 rfl (h_kx hE43 hc1_0 (by decide)) (hkge_78 (h_kx hE43 hc1_0 (by decide))) trivial k) ?_
      have hP50 : h_P D50 := hP43.set eD50 (hkge_78 (h_kx hE43 hc1_0 (by decide))) (by decide) (hPn (h_kx hE43 hc1_0 (by decide)) rfl)
      have hE50 : h_E D43 D50 := h_E_set eD50 (by decide)
      by_cases c53 : D43 v4 3 ≠ 0
      · rw [if_pos c53] at h
        refine hw_1 (fun k => x_ifnonnull (tgt := 98) dJ37_nextNode_53 (by decide) (fun _ => k) (fun z => absurd c53 z)) ?_
        refine hw_1 (fun k => x_aload_n dJ37_nextNode_98 rfl k) ?_
        obtain ⟨rfl, rfl⟩ := ga_end h
        exact hw_ret hP50 (x_aret dJ37_nextNode_99 rfl (by first | exact Or.inl ⟨_, rfl⟩ | exact Or.inr ⟨_, rfl⟩) hq)
      · rw [if_neg c53] at h
        refine hw_1 (fun k => x_ifnonnull (tgt := 98) dJ37_nextNode_53 (by decide) (fun z => absurd z c53) (fun _ => k)) ?_
        refine hw_1 (fun k => x_aload_n dJ37_nextNode_56 rfl k) ?_
        refine hw_1 (fun k => x_getf (v := D50 x0 4) dJ37_nextNode_57 fl_J37_1 (h_kx hE50 (h_kx hE43 hc1_0 (by decide)) (by decide)) rfl k) ?_
        replace h := ga_ck_some h; obtain ⟨hc60_0, h⟩ := h
        refine hw_1 (fun k => x_getf (v := D50 (D50 x0 4) 2) dJ37_nextNode_60 fl_J37_22 hc60_0 rfl k) ?_
        refine hw_1 (fun k => x_dup dJ37_nextNode_63 rfl k) ?_
        replace h := ga_let_some h; obtain ⟨v64, ev64, h⟩ := h
        refine hw_nm ev64 ?_
        refine hw_1 (fun k => x_astore_n (ls' := [(1, (2, v64)), (2, (2, v4)), (0, (2, x0))]) dJ37_nextNode_64 (by decide) rfl k) ?_
        by_cases c65 : D50 (D50 x0 4) 2 = 0
        · rw [if_pos c65] at h
          refine hw_1 (fun k => x_ifnull (tgt := 98) dJ37_nextNode_65 (by decide) (fun _ => k) (fun z => absurd c65 z)) ?_
          refine hw_1 (fun k => x_aload_n dJ37_nextNode_98 rfl k) ?_
          obtain ⟨rfl, rfl⟩ := ga_end h
          exact hw_ret hP50 (x_aret dJ37_nextNode_99 rfl (by first | exact Or.inl ⟨_, rfl⟩ | exact Or.inr ⟨_, rfl⟩) hq)
        · rw [if_neg c65] at h
          refine hw_1 (fun k => x_ifnull (tgt := 98) dJ37_nextNode_65 (by decide) (fun z => absurd z c65) (fun _ => k)) ?_
          refine hw_locs [2, 0, 1] (ls' := [(0, (2, x0)), (1, (2, v64)), (2, (2, v4))]) rfl ?_
          refine h_J37_nextNode_l68_ok hq (fun x2 D98 hP h => ?_) hP50 h
          · refine hw_1 (fun k => x_aload_n dJ37_nextNode_98 rfl k) ?_
            obtain ⟨rfl, rfl⟩ := ga_end h
            exact hw_ret hP (x_aret dJ37_nextNode_99 rfl (by first | exact Or.inl ⟨_, rfl⟩ | exact Or.inr ⟨_, rfl⟩) hq)
    · rw [if_neg c28] at h
      refine hw_1 (fun k => x_ifnonnull (tgt := 39) dJ37_nextNode_28 (by decide) (fun z => absurd z c28) (fun _ => k)) ?_
      exact absurd h (by intro h; cases h)
  · rw [if_neg c16] at h
    refine hw_1 (fun k => x_icmp_eq (tgt := 27) dJ37_nextNode_16 (by decide) (fun z => absurd z c16) (fun _ => k)) ?_
    exact absurd h (by intro h; cases h)
theorem h_J38_next_ok {G : aw_G} {D D' : ga_D} {r : Int} {x0 : Int} (hP : h_P D) (h : h_J38_next x0 D = some (r, D')) : aw_HR yJ38_next cJ38_next 1 (some (.object "java/lang/Object")) 1 G [(2, x0)] D (some (2, r)) D' := by
  unfold h_J38_next at h
  refine hw_body (own := "java/util/HashMap$KeyIterator") (ini := false) (ls := [(0, (2, x0))]) rfl rfl (fun h => by cases h) (Nat.le_of_ble_eq_true rfl) rfl fun Q hq => ?_
  refine hw_1 (fun k => x_aload_n dJ38_next_0 rfl k) ?_
  replace h := ga_ck_some h; obtain ⟨hc1_0, h⟩ := h
  replace h := ga_bind_some h; obtain ⟨r1, D1, g1, h⟩ := h
  have hR1 := (h_J37_nextNode_ok (G := G) hP g1)
  obtain ⟨hP1, hE1, -⟩ := id hR1
  refine hw_call (rest := []) hR1 (fun hc hk9 => x_callU (C := "java/util/HashMap$KeyIterator") (owner := "java/util/HashMap$HashIterator") (as := []) (rest := []) dJ38_next_1 hc q3026 q3021 q3022 (Or.inr q3023) q3024 q3025 q495 hc1_0 rfl rfl (show _ ∧ _ ∧ _ = some 0 from by decide +kernel) (by decide) (by decide) rfl (Nat.le_of_ble_eq_true rfl) hk9 aw_nox) ?_
  replace h := ga_ck_some h; obtain ⟨hc4_1, h⟩ := h
  refine hw_1 (fun k => x_getf (v := D1 r1 1) dJ38_next_4 fl_J38_13 hc4_1 rfl k) ?_
  obtain ⟨rfl, rfl⟩ := ga_end h
  exact hw_ret hP1 (x_aret dJ38_next_7 rfl (by first | exact Or.inl ⟨_, rfl⟩ | exact Or.inr ⟨_, rfl⟩) hq)
theorem h_J4_successor_l42_ok {G : aw_G} {M0 : aw_M} {D' : ga_D} {Q : Option aw_V → aw_M → Prop} {r : Int} (hq : Q (some (2, r)) (hM D')) {k64 : Int → ga_D → ga_S} (hk64 : ∀ (x1 : Int) (D : ga_D), h_P D → k64 x1 D = some (r, D') → aw_HW G "java/util/TreeMap" cJ4_successor (some (.object "java/util/TreeMap$Entry")) 3 0 false M0 Q aw_no D' (hn D') (hsl D') 64 [(1, (2, x1))] [] D) : ∀ {n : Nat} {x1 x2 : Int} {D : ga_D}, h_P D → h_J4_successor_l42 n x1 x2 D k64 = some (r, D') → aw_HW G "java/util/TreeMap" cJ4_successor (some (.object "java/util/TreeMap$Entry")) 3 0 false M0 Q aw_no D' (hn D') (hsl D') 42 [(1, (2, x1)), (2, (2, x2))] [] D := by
  intro n
  induction n with
  | zero => intro x1 x2 D hP h; exact absurd (h : (none : ga_S) = some (r, D')) (by intro h; cases h)
  | succ n ih =>
    intro x1 x2 D hP h
    have ih : ∀ (x1 x2 : Int) (D : ga_D), h_P D → h_J4_successor_l42 n x1 x2 D k64 = some (r, D') → aw_HW G "java/util/TreeMap" cJ4_successor (some (.object "java/util/TreeMap$Entry")) 3 0 false M0 Q aw_no D' (hn D') (hsl D') 42 [(1, (2, x1)), (2, (2, x2))] [] D := fun x1 x2 D hP h => ih hP h
    replace h : (if x1 = 0 then (k64 x1 D) else (ga_ck (hk D x1 = (76, 0)) (ga_ck (x2 = 0 ∨ 4096 ≤ x2 ∨ D x1 3 = 0 ∨ 4096 ≤ D x1 3 ∨ x2 = D x1 3) (if x2 ≠ D x1 3 then (k64 x1 D) else (ga_let (D x1 4) (fun v60 => h_J4_successor_l42 n v60 x1 D k64))))) : ga_S) = some (r, D') := h
    refine hw_1 (fun k => x_aload_n dJ4_successor_42 rfl k) ?_
    by_cases c43 : x1 = 0
    · rw [if_pos c43] at h
      refine hw_1 (fun k => x_ifnull (tgt := 64) dJ4_successor_43 (by decide) (fun _ => k) (fun z => absurd c43 z)) ?_
      refine hw_locs [0] (ls' := [(1, (2, x1))]) rfl ?_
      exact hk64 _ _ hP h
    · rw [if_neg c43] at h
      refine hw_1 (fun k => x_ifnull (tgt := 64) dJ4_successor_43 (by decide) (fun z => absurd z c43) (fun _ => k)) ?_
      refine hw_1 (fun k => x_aload_n dJ4_successor_46 rfl k) ?_
      refine hw_1 (fun k => x_aload_n dJ4_successor_47 rfl k) ?_
      replace h := ga_ck_some h; obtain ⟨hc48_0, h⟩ := h
      refine hw_1 (fun k => x_getf (v := D x1 3) dJ4_successor_48 fl_J4_114 hc48_0 rfl k) ?_
      replace h := ga_ck_some h; obtain ⟨hc51_1, h⟩ := h
      by_cases c51 : x2 ≠ D x1 3
      · rw [if_pos c51] at h
        refine hw_1 (fun k => x_acmp_ne (tgt := 64) dJ4_successor_51 (by decide) hc51_1 (fun _ => k) (fun z => absurd c51 z)) ?_
        refine hw_locs [0] (ls' := [(1, (2, x1))]) rfl ?_
        exact hk64 _ _ hP h
      · rw [if_neg c51] at h
        refine hw_1 (fun k => x_acmp_ne (tgt := 64) dJ4_successor_51 (by decide) hc51_1 (fun z => absurd z c51) (fun _ => k)) ?_
        refine hw_1 (fun k => x_aload_n dJ4_successor_54 rfl k) ?_
        refine hw_1 (fun k => x_astore_n (ls' := [(2, (2, x1)), (1, (2, x1))]) dJ4_successor_55 (by decide) rfl k) ?_
        refine hw_1 (fun k => x_aload_n dJ4_successor_56 rfl k) ?_
        refine hw_1 (fun k => x_getf (v := D x1 4) dJ4_successor_57 fl_J4_124 hc48_0 rfl k) ?_
        replace h := ga_let_some h; obtain ⟨v60, ev60, h⟩ := h
        refine hw_nm ev60 ?_
        refine hw_1 (fun k => x_astore_n (ls' := [(1, (2, v60)), (2, (2, x1))]) dJ4_successor_60 (by decide) rfl k) ?_
        refine hw_1 (fun k => x_goto (tgt := 42) dJ4_successor_61 (by decide) k) ?_
        exact ih _ _ _ hP h
theorem h_J4_successor_l18_ok {G : aw_G} {M0 : aw_M} {D' : ga_D} {Q : Option aw_V → aw_M → Prop} {r : Int} (hq : Q (some (2, r)) (hM D')) {k33 : Int → ga_D → ga_S} (hk33 : ∀ (x1 : Int) (D : ga_D), h_P D → k33 x1 D = some (r, D') → aw_HW G "java/util/TreeMap" cJ4_successor (some (.object "java/util/TreeMap$Entry")) 3 0 false M0 Q aw_no D' (hn D') (hsl D') 33 [(1, (2, x1))] [] D) : ∀ {n : Nat} {x1 : Int} {D : ga_D}, h_P D → h_J4_successor_l18 n x1 D k33 = some (r, D') → aw_HW G "java/util/TreeMap" cJ4_successor (some (.object "java/util/TreeMap$Entry")) 3 0 false M0 Q aw_no D' (hn D') (hsl D') 18 [(1, (2, x1))] [] D := by
  intro n
  induction n with
  | zero => intro x1 D hP h; exact absurd (h : (none : ga_S) = some (r, D')) (by intro h; cases h)
  | succ n ih =>
    intro x1 D hP h
    have ih : ∀ (x1 : Int) (D : ga_D), h_P D → h_J4_successor_l18 n x1 D k33 = some (r, D') → aw_HW G "java/util/TreeMap" cJ4_successor (some (.object "java/util/TreeMap$Entry")) 3 0 false M0 Q aw_no D' (hn D') (hsl D') 18 [(1, (2, x1))] [] D := fun x1 D hP h => ih hP h
    replace h : (ga_ck (hk D x1 = (76, 0)) (if D x1 2 = 0 then (k33 x1 D) else (ga_let (D x1 2) (fun v29 => h_J4_successor_l18 n v29 D k33))) : ga_S) = some (r, D') := h
    refine hw_1 (fun k => x_aload_n dJ4_successor_18 rfl k) ?_
    replace h := ga_ck_some h; obtain ⟨hc19_0, h⟩ := h
    refine hw_1 (fun k => x_getf (v := D x1 2) dJ4_successor_19 fl_J4_111 hc19_0 rfl k) ?_
    by_cases c22 : D x1 2 = 0
    · rw [if_pos c22] at h
      refine hw_1 (fun k => x_ifnull (tgt := 33) dJ4_successor_22 (by decide) (fun _ => k) (fun z => absurd c22 z)) ?_
      exact hk33 _ _ hP h
    · rw [if_neg c22] at h
      refine hw_1 (fun k => x_ifnull (tgt := 33) dJ4_successor_22 (by decide) (fun z => absurd z c22) (fun _ => k)) ?_
      refine hw_1 (fun k => x_aload_n dJ4_successor_25 rfl k) ?_
      refine hw_1 (fun k => x_getf (v := D x1 2) dJ4_successor_26 fl_J4_111 hc19_0 rfl k) ?_
      replace h := ga_let_some h; obtain ⟨v29, ev29, h⟩ := h
      refine hw_nm ev29 ?_
      refine hw_1 (fun k => x_astore_n (ls' := [(1, (2, v29))]) dJ4_successor_29 (by decide) rfl k) ?_
      refine hw_1 (fun k => x_goto (tgt := 18) dJ4_successor_30 (by decide) k) ?_
      exact ih _ _ hP h
theorem h_J4_successor_ok {G : aw_G} {D D' : ga_D} {r : Int} {x0 : Int} (hP : h_P D) (h : h_J4_successor x0 D = some (r, D')) : aw_HR yJ4_successor cJ4_successor 3 (some (.object "java/util/TreeMap$Entry")) 0 G [(2, x0)] D (some (2, r)) D' := by
  unfold h_J4_successor at h
  refine hw_body (own := "java/util/TreeMap") (ini := false) (ls := [(0, (2, x0))]) rfl rfl (fun h => by cases h) (Nat.le_of_ble_eq_true rfl) rfl fun Q hq => ?_
  refine hw_1 (fun k => x_aload_n dJ4_successor_0 rfl k) ?_
  by_cases c1 : x0 ≠ 0
  · rw [if_pos c1] at h
    refine hw_1 (fun k => x_ifnonnull (tgt := 6) dJ4_successor_1 (by decide) (fun _ => k) (fun z => absurd c1 z)) ?_
    refine hw_1 (fun k => x_aload_n dJ4_successor_6 rfl k) ?_
    replace h := ga_ck_some h; obtain ⟨hc7_0, h⟩ := h
    refine hw_1 (fun k => x_getf (v := D x0 3) dJ4_successor_7 fl_J4_114 hc7_0 rfl k) ?_
    by_cases c10 : D x0 3 = 0
    · rw [if_pos c10] at h
      refine hw_1 (fun k => x_ifnull (tgt := 35) dJ4_successor_10 (by decide) (fun _ => k) (fun z => absurd c10 z)) ?_
      refine hw_1 (fun k => x_aload_n dJ4_successor_35 rfl k) ?_
      refine hw_1 (fun k => x_getf (v := D x0 4) dJ4_successor_36 fl_J4_124 hc7_0 rfl k) ?_
      replace h := ga_let_some h; obtain ⟨v39, ev39, h⟩ := h
      refine hw_nm ev39 ?_
      refine hw_1 (fun k => x_astore_n (ls' := [(1, (2, v39)), (0, (2, x0))]) dJ4_successor_39 (by decide) rfl k) ?_
      refine hw_1 (fun k => x_aload_n dJ4_successor_40 rfl k) ?_
      refine hw_1 (fun k => x_astore_n (ls' := [(2, (2, x0)), (1, (2, v39)), (0, (2, x0))]) dJ4_successor_41 (by decide) rfl k) ?_
      refine hw_locs [1, 0] (ls' := [(1, (2, v39)), (2, (2, x0))]) rfl ?_
      refine h_J4_successor_l42_ok hq (fun x1 D64 hP h => ?_) hP h
      · refine hw_1 (fun k => x_aload_n dJ4_successor_64 rfl k) ?_
        obtain ⟨rfl, rfl⟩ := ga_end h
        exact hw_ret hP (x_aret dJ4_successor_65 rfl (by first | exact Or.inl ⟨_, rfl⟩ | exact Or.inr ⟨_, rfl⟩) hq)
    · rw [if_neg c10] at h
      refine hw_1 (fun k => x_ifnull (tgt := 35) dJ4_successor_10 (by decide) (fun z => absurd z c10) (fun _ => k)) ?_
      refine hw_1 (fun k => x_aload_n dJ4_successor_13 rfl k) ?_
      refine hw_1 (fun k => x_getf (v := D x0 3) dJ4_successor_14 fl_J4_114 hc7_0 rfl k) ?_
      replace h := ga_let_some h; obtain ⟨v17, ev17, h⟩ := h
      refine hw_nm ev17 ?_
      refine hw_1 (fun k => x_astore_n (ls' := [(1, (2, v17)), (0, (2, x0))]) dJ4_successor_17 (by decide) rfl k) ?_
      refine hw_locs [0] (ls' := [(1, (2, v17))]) rfl ?_
      refine h_J4_successor_l18_ok hq (fun x1 D33 hP h => ?_) hP h
      · refine hw_1 (fun k => x_aload_n dJ4_successor_33 rfl k) ?_
        obtain ⟨rfl, rfl⟩ := ga_end h
        exact hw_ret hP (x_aret dJ4_successor_34 rfl (by first | exact Or.inl ⟨_, rfl⟩ | exact Or.inr ⟨_, rfl⟩) hq)
  · rw [if_neg c1] at h
    refine hw_1 (fun k => x_ifnonnull (tgt := 6) dJ4_successor_1 (by decide) (fun z => absurd z c1) (fun _ => k)) ?_
    refine hw_1 (fun k => x_null dJ4_successor_4 k) ?_
    obtain ⟨rfl, rfl⟩ := ga_end h
    exact hw_ret hP (x_aret dJ4_successor_5 rfl (by first | exact Or.inl ⟨_, rfl⟩ | exact Or.inr ⟨_, rfl⟩) hq)
theorem h_J40_nextEntry_ok {G : aw_G} {D D' : ga_D} {r : Int} {x0 : Int} (hP : h_P D) (h : h_J40_nextEntry x0 D = some (r, D')) : aw_HR yJ40_nextEntry cJ40_nextEntry 2 (some (.object "java/util/TreeMap$Entry")) 1 G [(2, x0)] D (some (2, r)) D' := by
  unfold h_J40_nextEntry at h
  refine hw_body (own := "java/util/TreeMap$PrivateEntryIterator") (ini := false) (ls := [(0, (2, x0))]) rfl rfl (fun h => by cases h) (Nat.le_of_ble_eq_true rfl) rfl fun Q hq => ?_
  refine hw_1 (fun k => x_aload_n dJ40_nextEntry_0 rfl k) ?_
  replace h := ga_ck_some h; obtain ⟨hc1_0, h⟩ := h
  refine hw_1 (fun k => x_getf (v := D x0 0) dJ40_nextEntry_1 fl_J40_26 hc1_0 rfl k) ?_
  replace h := ga_let_some h; obtain ⟨v4, ev4, h⟩ := h
  refine hw_nm ev4 ?_
  refine hw_1 (fun k => x_astore_n (ls' := [(1, (2, v4)), (0, (2, x0))]) dJ40_nextEntry_4 (by decide) rfl k) ?_
  refine hw_1 (fun k => x_aload_n dJ40_nextEntry_5 rfl k) ?_
  by_cases c6 : v4 ≠ 0
  · rw [if_pos c6] at h
    refine hw_1 (fun k => x_ifnonnull (tgt := 17) dJ40_nextEntry_6 (by decide) (fun _ => k) (fun z => absurd c6 z)) ?_
    refine hw_1 (fun k => x_aload_n dJ40_nextEntry_17 rfl k) ?_
    refine hw_1 (fun k => x_getf (v := D x0 3) dJ40_nextEntry_18 fl_J40_1 hc1_0 rfl k) ?_
    replace h := ga_ck_some h; obtain ⟨hc21_0, h⟩ := h
    refine hw_1 (fun k => x_getfN (v := D (D x0 3) 5) dJ40_nextEntry_21 fl_J40_13 hc21_0 rfl k) ?_
    refine hw_1 (fun k => x_aload_n dJ40_nextEntry_24 rfl k) ?_
    refine hw_1 (fun k => x_getf (v := D x0 2) dJ40_nextEntry_25 fl_J40_19 hc1_0 rfl k) ?_
    by_cases c28 : D (D x0 3) 5 = D x0 2
    · rw [if_pos c28] at h
      refine hw_1 (fun k => x_icmp_eq (tgt := 39) dJ40_nextEntry_28 (by decide) (fun _ => k) (fun z => absurd c28 z)) ?_
      refine hw_1 (fun k => x_aload_n dJ40_nextEntry_39 rfl k) ?_
      refine hw_1 (fun k => x_aload_n dJ40_nextEntry_40 rfl k) ?_
      replace h := ga_bind_some h; obtain ⟨r41, D41, g41, h⟩ := h
      have hR41 := (h_J4_successor_ok (G := G) hP g41)
      obtain ⟨hP41, hE41, -⟩ := id hR41
      refine hw_call (rest := [(2, x0)]) hR41 (fun hc hk9 => x_callS (as := [(2, v4)]) (rest := [(2, x0)]) dJ40_nextEntry_41 hc (lw_S q3042 q3043 q403 q3044) (show _ ∧ _ ∧ _ = some 1 from by decide +kernel) (by decide) (by decide) rfl (Nat.le_of_ble_eq_true rfl) hk9 aw_nox) ?_
      replace h := ga_let_some h; obtain ⟨D44, eD44, h⟩ := h
      refine hw_set eD44 (Int.le_trans (by decide) (hkge_80 (h_kx hE41 hc1_0 (by decide)))) (by decide) (fun k => x_putf dJ40_nextEntry_44 fl_J40_26 rfl (h_kx hE41 hc1_0 (by decide)) (hkge_80 (h_kx hE41 hc1_0 (by decide))) trivial k) ?_
      have hP44 : h_P D44 := hP41.set eD44 (hkge_80 (h_kx hE41 hc1_0 (by decide))) (by decide) (hPn (h_kx hE41 hc1_0 (by decide)) rfl)
      have hE44 : h_E D41 D44 := h_E_set eD44 (by decide)
      refine hw_1 (fun k => x_aload_n dJ40_nextEntry_47 rfl k) ?_
      refine hw_1 (fun k => x_aload_n dJ40_nextEntry_48 rfl k) ?_
      replace h := ga_let_some h; obtain ⟨D49, eD49, h⟩ := h
      refine hw_set eD49 (Int.le_trans (by decide) (hkge_80 (h_kx hE44 (h_kx hE41 hc1_0 (by decide)) (by decide)))) (by decide) (fun k => x_putf dJ40_nextEntry_49 fl_J40_22 rfl (h_kx hE44 (h_kx hE41 hc1_0 (by decide)) (by decide)) (hkge_80 (h_kx hE44 (h_kx hE41 hc1_0 (by decide)) (by decide))) trivial k) ?_
      have hP49 : h_P D49 := hP44.set eD49 (hkge_80 (h_kx hE44 (h_kx hE41 hc1_0 (by decide)) (by decide))) (by decide) (hPn (h_kx hE44 (h_kx hE41 hc1_0 (by decide)) (by decide)) rfl)
      have hE49 : h_E D44 D49 := h_E_set eD49 (by decide)
      refine hw_1 (fun k => x_aload_n dJ40_nextEntry_52 rfl k) ?_
      obtain ⟨rfl, rfl⟩ := ga_end h
      exact hw_ret hP49 (x_aret dJ40_nextEntry_53 rfl (by first | exact Or.inl ⟨_, rfl⟩ | exact Or.inr ⟨_, rfl⟩) hq)
    · rw [if_neg c28] at h
      refine hw_1 (fun k => x_icmp_eq (tgt := 39) dJ40_nextEntry_28 (by decide) (fun z => absurd z c28) (fun _ => k)) ?_
      exact absurd h (by intro h; cases h)
  · rw [if_neg c6] at h
    refine hw_1 (fun k => x_ifnonnull (tgt := 17) dJ40_nextEntry_6 (by decide) (fun z => absurd z c6) (fun _ => k)) ?_
    exact absurd h (by intro h; cases h)
theorem h_J41_next_2_ok {G : aw_G} {D D' : ga_D} {r : Int} {x0 : Int} (hP : h_P D) (h : h_J41_next_2 x0 D = some (r, D')) : aw_HR yJ41_next_2 cJ41_next_2 1 (some (.object "java/util/Map$Entry")) 2 G [(2, x0)] D (some (2, r)) D' := by
  unfold h_J41_next_2 at h
  refine hw_body (own := "java/util/TreeMap$EntryIterator") (ini := false) (ls := [(0, (2, x0))]) rfl rfl (fun h => by cases h) (Nat.le_of_ble_eq_true rfl) rfl fun Q hq => ?_
  refine hw_1 (fun k => x_aload_n dJ41_next_2_0 rfl k) ?_
  replace h := ga_ck_some h; obtain ⟨hc1_0, h⟩ := h
  replace h := ga_bind_some h; obtain ⟨r1, D1, g1, h⟩ := h
  have hR1 := (h_J40_nextEntry_ok (G := G) hP g1)
  obtain ⟨hP1, hE1, -⟩ := id hR1
  refine hw_call (rest := []) hR1 (fun hc hk9 => x_callU (C := "java/util/TreeMap$EntryIterator") (owner := "java/util/TreeMap$PrivateEntryIterator") (as := []) (rest := []) dJ41_next_2_1 hc q3041 q3036 q3037 (Or.inr q3038) q3039 q3040 q498 hc1_0 rfl rfl (show _ ∧ _ ∧ _ = some 0 from by decide +kernel) (by decide) (by decide) rfl (Nat.le_of_ble_eq_true rfl) hk9 aw_nox) ?_
  obtain ⟨rfl, rfl⟩ := ga_end h
  exact hw_ret hP1 (x_aret dJ41_next_2_4 rfl (by first | exact Or.inl ⟨_, rfl⟩ | exact Or.inr ⟨_, rfl⟩) hq)
theorem h_J41_next_ok {G : aw_G} {D D' : ga_D} {r : Int} {x0 : Int} (hP : h_P D) (h : h_J41_next x0 D = some (r, D')) : aw_HR yJ41_next cJ41_next 1 (some (.object "java/lang/Object")) 3 G [(2, x0)] D (some (2, r)) D' := by
  unfold h_J41_next at h
  refine hw_body (own := "java/util/TreeMap$EntryIterator") (ini := false) (ls := [(0, (2, x0))]) rfl rfl (fun h => by cases h) (Nat.le_of_ble_eq_true rfl) rfl fun Q hq => ?_
  refine hw_1 (fun k => x_aload_n dJ41_next_0 rfl k) ?_
  replace h := ga_ck_some h; obtain ⟨hc1_0, h⟩ := h
  replace h := ga_bind_some h; obtain ⟨r1, D1, g1, h⟩ := h
  have hR1 := (h_J41_next_2_ok (G := G) hP g1)
  obtain ⟨hP1, hE1, -⟩ := id hR1
  refine hw_call (rest := []) hR1 (fun hc hk9 => x_callV (as := []) (rest := []) dJ41_next_1 hc (lw_V q3032 q3033 q3034 q499 q3035) hc1_0 rfl rfl (show _ ∧ _ ∧ _ ∧ _ = some 0 from by decide +kernel) (by decide) (by decide) rfl (Nat.le_of_ble_eq_true rfl) hk9 aw_nox) ?_
  obtain ⟨rfl, rfl⟩ := ga_end h
  exact hw_ret hP1 (x_aret dJ41_next_4 rfl (by first | exact Or.inl ⟨_, rfl⟩ | exact Or.inr ⟨_, rfl⟩) hq)
theorem h_J7_nonNullElementAt_ok {G : aw_G} {D D' : ga_D} {r : Int} {x0 x1 : Int} (hP : h_P D) (h : h_J7_nonNullElementAt x0 x1 D = some (r, D')) : aw_HR yJ7_nonNullElementAt cJ7_nonNullElementAt 3 (some (.object "java/lang/Object")) 0 G [(2, x0), (0, x1)] D (some (2, r)) D' := by
  unfold h_J7_nonNullElementAt at h
  refine hw_body (own := "java/util/ArrayDeque") (ini := false) (ls := [(0, (2, x0)), (1, (0, x1))]) rfl rfl (fun h => by cases h) (Nat.le_of_ble_eq_true rfl) rfl fun Q hq => ?_
  refine hw_1 (fun k => x_aload_n dJ7_nonNullElementAt_0 rfl k) ?_
  refine hw_1 (fun k => x_iload_n dJ7_nonNullElementAt_1 rfl k) ?_
  replace h := ga_ck_some h; obtain ⟨hc2_0, h⟩ := h
  replace h := ga_ck_some h; obtain ⟨hc2_1, h⟩ := h
  refine hw_1 (fun k => x_aald (t := 17) (v := D x0 x1) dJ7_nonNullElementAt_2 (hk_p hc2_0) rfl rfl hc2_1.1 hc2_1.2 rfl k) ?_
  replace h := ga_let_some h; obtain ⟨v3, ev3, h⟩ := h
  refine hw_nm ev3 ?_
  refine hw_1 (fun k => x_astore_n (ls' := [(2, (2, v3)), (0, (2, x0)), (1, (0, x1))]) dJ7_nonNullElementAt_3 (by decide) rfl k) ?_
  refine hw_1 (fun k => x_aload_n dJ7_nonNullElementAt_4 rfl k) ?_
  by_cases c5 : v3 ≠ 0
  · rw [if_pos c5] at h
    refine hw_1 (fun k => x_ifnonnull (tgt := 16) dJ7_nonNullElementAt_5 (by decide) (fun _ => k) (fun z => absurd c5 z)) ?_
    refine hw_1 (fun k => x_aload_n dJ7_nonNullElementAt_16 rfl k) ?_
    obtain ⟨rfl, rfl⟩ := ga_end h
    exact hw_ret hP (x_aret dJ7_nonNullElementAt_17 rfl (by first | exact Or.inl ⟨_, rfl⟩ | exact Or.inr ⟨_, rfl⟩) hq)
  · rw [if_neg c5] at h
    refine hw_1 (fun k => x_ifnonnull (tgt := 16) dJ7_nonNullElementAt_5 (by decide) (fun z => absurd z c5) (fun _ => k)) ?_
    exact absurd h (by intro h; cases h)
theorem h_J7_inc_ok {G : aw_G} {D D' : ga_D} {r : Int} {x0 x1 : Int} (hP : h_P D) (h : h_J7_inc x0 x1 D = some (r, D')) : aw_HR yJ7_inc cJ7_inc 2 (some (.int)) 0 G [(0, x0), (0, x1)] D (some (0, r)) D' := by
  unfold h_J7_inc at h
  refine hw_body (own := "java/util/ArrayDeque") (ini := false) (ls := [(0, (0, x0)), (1, (0, x1))]) rfl rfl (fun h => by cases h) (Nat.le_of_ble_eq_true rfl) rfl fun Q hq => ?_
  replace h := ga_let_some h; obtain ⟨v0, ev0, h⟩ := h
  refine hw_1 (fun k => x_iinc (ls' := [(0, (0, v0)), (1, (0, x1))]) dJ7_inc_0 rfl ev0.symm (by decide) rfl k) ?_
  refine hw_1 (fun k => x_iload_n dJ7_inc_3 rfl k) ?_
  refine hw_1 (fun k => x_iload_n dJ7_inc_4 rfl k) ?_
  by_cases c5 : v0 < x1
  · rw [if_pos c5] at h
    refine hw_1 (fun k => x_icmp_lt (tgt := 10) dJ7_inc_5 (by decide) (fun _ => k) (fun z => absurd c5 z)) ?_
    refine hw_1 (fun k => x_iload_n dJ7_inc_10 rfl k) ?_
    obtain ⟨rfl, rfl⟩ := ga_end h
    exact hw_ret hP (x_iret dJ7_inc_11 rfl rfl trivial hq)
  · rw [if_neg c5] at h
    refine hw_1 (fun k => x_icmp_lt (tgt := 10) dJ7_inc_5 (by decide) (fun z => absurd z c5) (fun _ => k)) ?_
    refine hw_1 (fun k => x_iconst dJ7_inc_8 (by decide) k) ?_
    refine hw_1 (fun k => x_istore_n (ls' := [(0, (0, 0)), (1, (0, x1))]) dJ7_inc_9 (by decide) rfl k) ?_
    refine hw_1 (fun k => x_iload_n dJ7_inc_10 rfl k) ?_
    obtain ⟨rfl, rfl⟩ := ga_end h
    exact hw_ret hP (x_iret dJ7_inc_11 rfl rfl trivial hq)
theorem h_J43_next_ok {G : aw_G} {D D' : ga_D} {r : Int} {x0 : Int} (hP : h_P D) (h : h_J43_next x0 D = some (r, D')) : aw_HR yJ43_next cJ43_next 3 (some (.object "java/lang/Object")) 1 G [(2, x0)] D (some (2, r)) D' := by
  unfold h_J43_next at h
  refine hw_body (own := "java/util/ArrayDeque$DeqIterator") (ini := false) (ls := [(0, (2, x0))]) rfl rfl (fun h => by cases h) (Nat.le_of_ble_eq_true rfl) rfl fun Q hq => ?_
  refine hw_1 (fun k => x_aload_n dJ43_next_0 rfl k) ?_
  replace h := ga_ck_some h; obtain ⟨hc1_0, h⟩ := h
  refine hw_1 (fun k => x_getf (v := D x0 1) dJ43_next_1 fl_J43_19 hc1_0 rfl k) ?_
  by_cases c4 : 0 < D x0 1
  · rw [if_pos c4] at h
    refine hw_1 (fun k => x_if_gt (tgt := 15) dJ43_next_4 (by decide) (fun _ => k) (fun z => absurd c4 z)) ?_
    refine hw_1 (fun k => x_aload_n dJ43_next_15 rfl k) ?_
    refine hw_1 (fun k => x_getf (v := D x0 3) dJ43_next_16 fl_J43_1 hc1_0 rfl k) ?_
    replace h := ga_ck_some h; obtain ⟨hc19_0, h⟩ := h
    refine hw_1 (fun k => x_getf (v := D (D x0 3) 0) dJ43_next_19 fl_J43_35 hc19_0 rfl k) ?_
    replace h := ga_let_some h; obtain ⟨v22, ev22, h⟩ := h
    refine hw_nm ev22 ?_
    refine hw_1 (fun k => x_astore_n (ls' := [(1, (2, v22)), (0, (2, x0))]) dJ43_next_22 (by decide) rfl k) ?_
    refine hw_1 (fun k => x_aload_n dJ43_next_23 rfl k) ?_
    refine hw_1 (fun k => x_aload_n dJ43_next_24 rfl k) ?_
    refine hw_1 (fun k => x_getf (v := D x0 0) dJ43_next_25 fl_J43_29 hc1_0 rfl k) ?_
    replace h := ga_bind_some h; obtain ⟨r28, D28, g28, h⟩ := h
    have hR28 := (h_J7_nonNullElementAt_ok (G := G) hP g28)
    obtain ⟨hP28, hE28, -⟩ := id hR28
    refine hw_call (rest := []) hR28 (fun hc hk9 => x_callS (as := [(2, v22), (0, D x0 0)]) (rest := []) dJ43_next_28 hc (lw_S q3001 q3002 q435 q3003) (show _ ∧ _ ∧ _ = some 2 from by decide +kernel) (by decide) (by decide) rfl (Nat.le_of_ble_eq_true rfl) hk9 aw_nox) ?_
    refine hw_1 (fun k => x_astore_n (ls' := [(2, (2, r28)), (1, (2, v22)), (0, (2, x0))]) dJ43_next_31 (by decide) rfl k) ?_
    refine hw_1 (fun k => x_aload_n dJ43_next_32 rfl k) ?_
    refine hw_1 (fun k => x_aload_n dJ43_next_33 rfl k) ?_
    refine hw_1 (fun k => x_aload_n dJ43_next_34 rfl k) ?_
    refine hw_1 (fun k => x_getf (v := D28 x0 0) dJ43_next_35 fl_J43_29 (h_kx hE28 hc1_0 (by decide)) rfl k) ?_
    refine hw_1 (fun k => x_dup_x1 dJ43_next_38 rfl rfl k) ?_
    replace h := ga_let_some h; obtain ⟨D39, eD39, h⟩ := h
    refine hw_set eD39 (Int.le_trans (by decide) (hkge_82 (h_kx hE28 hc1_0 (by decide)))) (by decide) (fun k => x_putf dJ43_next_39 fl_J43_23 rfl (h_kx hE28 hc1_0 (by decide)) (hkge_82 (h_kx hE28 hc1_0 (by decide))) trivial k) ?_
    have hP39 : h_P D39 := hP28.set eD39 (hkge_82 (h_kx hE28 hc1_0 (by decide))) (by decide) (hPn (h_kx hE28 hc1_0 (by decide)) rfl)
    have hE39 : h_E D28 D39 := h_E_set eD39 (by decide)
    refine hw_1 (fun k => x_aload_n dJ43_next_42 rfl k) ?_
    replace h := ga_ck_some h; obtain ⟨hc43_1, h⟩ := h
    refine hw_1 (fun k => x_alen (t := 17) dJ43_next_43 (hk_p hc43_1) rfl k) ?_
    replace h := ga_bind_some h; obtain ⟨r44, D44, g44, h⟩ := h
    have hR44 := (h_J7_inc_ok (G := G) hP39 g44)
    obtain ⟨hP44, hE44, -⟩ := id hR44
    refine hw_call (rest := [(2, x0)]) hR44 (fun hc hk9 => x_callS (as := [(0, D28 x0 0), (0, (hk D39 v22).2)]) (rest := [(2, x0)]) dJ43_next_44 hc (lw_S q3004 q3005 q435 q3006) (show _ ∧ _ ∧ _ = some 2 from by decide +kernel) (by decide) (by decide) rfl (Nat.le_of_ble_eq_true rfl) hk9 aw_nox) ?_
    replace h := ga_let_some h; obtain ⟨D47, eD47, h⟩ := h
    refine hw_set eD47 (Int.le_trans (by decide) (hkge_82 (h_kx hE44 (h_kx hE39 (h_kx hE28 hc1_0 (by decide)) (by decide)) (by decide)))) (by decide) (fun k => x_putf dJ43_next_47 fl_J43_29 rfl (h_kx hE44 (h_kx hE39 (h_kx hE28 hc1_0 (by decide)) (by decide)) (by decide)) (hkge_82 (h_kx hE44 (h_kx hE39 (h_kx hE28 hc1_0 (by decide)) (by decide)) (by decide))) trivial k) ?_
    have hP47 : h_P D47 := hP44.set eD47 (hkge_82 (h_kx hE44 (h_kx hE39 (h_kx hE28 hc1_0 (by decide)) (by decide)) (by decide))) (by decide) (hPn (h_kx hE44 (h_kx hE39 (h_kx hE28 hc1_0 (by decide)) (by decide)) (by decide)) rfl)
    have hE47 : h_E D44 D47 := h_E_set eD47 (by decide)
    refine hw_1 (fun k => x_aload_n dJ43_next_50 rfl k) ?_
    refine hw_1 (fun k => x_dup dJ43_next_51 rfl k) ?_
    refine hw_1 (fun k => x_getf (v := D47 x0 1) dJ43_next_52 fl_J43_19 (h_kx hE47 (h_kx hE44 (h_kx hE39 (h_kx hE28 hc1_0 (by decide)) (by decide)) (by decide)) (by decide)) rfl k) ?_
    refine hw_1 (fun k => x_iconst dJ43_next_55 (by decide) k) ?_
    refine hw_1 (fun k => x_isub dJ43_next_56 rfl k) ?_
    replace h := ga_let_some h; obtain ⟨D57, eD57, h⟩ := h
    refine hw_set eD57 (Int.le_trans (by decide) (hkge_82 (h_kx hE47 (h_kx hE44 (h_kx hE39 (h_kx hE28 hc1_0 (by decide)) (by decide)) (by decide)) (by decide)))) (by decide) (fun k => x_putf dJ43_next_57 fl_J43_19 rfl (h_kx hE47 (h_kx hE44 (h_kx hE39 (h_kx hE28 hc1_0 (by decide)) (by decide)) (by decide)) (by decide)) (hkge_82 (h_kx hE47 (h_kx hE44 (h_kx hE39 (h_kx hE28 hc1_0 (by decide)) (by decide)) (by decide)) (by decide))) trivial k) ?_
    have hP57 : h_P D57 := hP47.set eD57 (hkge_82 (h_kx hE47 (h_kx hE44 (h_kx hE39 (h_kx hE28 hc1_0 (by decide)) (by decide)) (by decide)) (by decide))) (by decide) (hPn (h_kx hE47 (h_kx hE44 (h_kx hE39 (h_kx hE28 hc1_0 (by decide)) (by decide)) (by decide)) (by decide)) rfl)
    have hE57 : h_E D47 D57 := h_E_set eD57 (by decide)
    refine hw_1 (fun k => x_aload_n dJ43_next_60 rfl k) ?_
    obtain ⟨rfl, rfl⟩ := ga_end h
    exact hw_ret hP57 (x_aret dJ43_next_61 rfl (by first | exact Or.inl ⟨_, rfl⟩ | exact Or.inr ⟨_, rfl⟩) hq)
  · rw [if_neg c4] at h
    refine hw_1 (fun k => x_if_gt (tgt := 15) dJ43_next_4 (by decide) (fun z => absurd z c4) (fun _ => k)) ?_
    exact absurd h (by intro h; cases h)
theorem h_J11_hugeLength_ok {G : aw_G} {D D' : ga_D} {r : Int} {x0 x1 : Int} (hP : h_P D) (h : h_J11_hugeLength x0 x1 D = some (r, D')) : aw_HR yJ11_hugeLength cJ11_hugeLength 3 (some (.int)) 0 G [(0, x0), (0, x1)] D (some (0, r)) D' := by
  unfold h_J11_hugeLength at h
  refine hw_body (own := "jdk/internal/util/ArraysSupport") (ini := false) (ls := [(0, (0, x0)), (1, (0, x1))]) rfl rfl (fun h => by cases h) (Nat.le_of_ble_eq_true rfl) rfl fun Q hq => ?_
  refine hw_1 (fun k => x_iload_n dJ11_hugeLength_0 rfl k) ?_
  refine hw_1 (fun k => x_iload_n dJ11_hugeLength_1 rfl k) ?_
  refine hw_1 (fun k => x_iadd dJ11_hugeLength_2 rfl k) ?_
  replace h := ga_let_some h; obtain ⟨v3, ev3, h⟩ := h
  refine hw_nm ev3 ?_
  refine hw_1 (fun k => x_istore_n (ls' := [(2, (0, v3)), (0, (0, x0)), (1, (0, x1))]) dJ11_hugeLength_3 (by decide) rfl k) ?_
  refine hw_1 (fun k => x_iload_n dJ11_hugeLength_4 rfl k) ?_
  by_cases c5 : 0 ≤ v3
  · rw [if_pos c5] at h
    refine hw_1 (fun k => x_if_ge (tgt := 49) dJ11_hugeLength_5 (by decide) (fun _ => k) (fun z => absurd c5 z)) ?_
    refine hw_1 (fun k => x_iload_n dJ11_hugeLength_49 rfl k) ?_
    refine hw_1 (fun k => x_ldc (z := 2147483639) dJ11_hugeLength_50 q1962 (by decide) k) ?_
    by_cases c52 : 2147483639 < v3
    · rw [if_pos c52] at h
      refine hw_1 (fun k => x_icmp_gt (tgt := 58) dJ11_hugeLength_52 (by decide) (fun _ => k) (fun z => absurd c52 z)) ?_
      refine hw_1 (fun k => x_iload_n dJ11_hugeLength_58 rfl k) ?_
      obtain ⟨rfl, rfl⟩ := ga_end h
      exact hw_ret hP (x_iret dJ11_hugeLength_59 rfl rfl trivial hq)
    · rw [if_neg c52] at h
      refine hw_1 (fun k => x_icmp_gt (tgt := 58) dJ11_hugeLength_52 (by decide) (fun z => absurd z c52) (fun _ => k)) ?_
      refine hw_1 (fun k => x_ldc (z := 2147483639) dJ11_hugeLength_55 q1962 (by decide) k) ?_
      obtain ⟨rfl, rfl⟩ := ga_end h
      exact hw_ret hP (x_iret dJ11_hugeLength_57 rfl rfl trivial hq)
  · rw [if_neg c5] at h
    refine hw_1 (fun k => x_if_ge (tgt := 49) dJ11_hugeLength_5 (by decide) (fun z => absurd z c5) (fun _ => k)) ?_
    exact absurd h (by intro h; cases h)
theorem h_J11_newLength_j21_ok {G : aw_G} {M0 : aw_M} {D' : ga_D} {Q : Option aw_V → aw_M → Prop} {r : Int} (hq : Q (some (0, r)) (hM D')) {x0 x1 : Int} {D : ga_D} (hP : h_P D) (h : h_J11_newLength_j21 x0 x1 D = some (r, D')) : aw_HW G "jdk/internal/util/ArraysSupport" cJ11_newLength (some (.int)) 4 2 false M0 Q aw_no D' (hn D') (hsl D') 21 [(0, (0, x0)), (1, (0, x1))] [] D := by
  unfold h_J11_newLength_j21 at h
  refine hw_1 (fun k => x_iload_n dJ11_newLength_21 rfl k) ?_
  refine hw_1 (fun k => x_iload_n dJ11_newLength_22 rfl k) ?_
  replace h := ga_bind_some h; obtain ⟨r23, D23, g23, h⟩ := h
  have hR23 := (h_J11_hugeLength_ok (G := G) hP g23)
  obtain ⟨hP23, hE23, -⟩ := id hR23
  refine hw_call (rest := []) hR23 (fun hc hk9 => x_callS (as := [(0, x0), (0, x1)]) (rest := []) dJ11_newLength_23 hc (lw_S q1963 q1964 q442 q1965) (show _ ∧ _ ∧ _ = some 2 from by decide +kernel) (by decide) (by decide) rfl (Nat.le_of_ble_eq_true rfl) hk9 aw_nox) ?_
  obtain ⟨rfl, rfl⟩ := ga_end h
  exact hw_ret hP23 (x_iret dJ11_newLength_26 rfl rfl trivial hq)
theorem h_J11_newLength_ok {G : aw_G} {D D' : ga_D} {r : Int} {x0 x1 x2 : Int} (hP : h_P D) (h : h_J11_newLength x0 x1 x2 D = some (r, D')) : aw_HR yJ11_newLength cJ11_newLength 4 (some (.int)) 2 G [(0, x0), (0, x1), (0, x2)] D (some (0, r)) D' := by
  unfold h_J11_newLength at h
  refine hw_body (own := "jdk/internal/util/ArraysSupport") (ini := false) (ls := [(0, (0, x0)), (1, (0, x1)), (2, (0, x2))]) rfl rfl (fun h => by cases h) (Nat.le_of_ble_eq_true rfl) rfl fun Q hq => ?_
  refine hw_1 (fun k => x_iload_n dJ11_newLength_0 rfl k) ?_
  refine hw_1 (fun k => x_iload_n dJ11_newLength_1 rfl k) ?_
  refine hw_1 (fun k => x_iload_n dJ11_newLength_2 rfl k) ?_
  refine hw_1 (fun k => x_mmax dJ11_newLength_3 q1959 q1960 q409 q1961 (by decide) (Nat.le_of_ble_eq_true rfl) rfl k) ?_
  refine hw_1 (fun k => x_iadd dJ11_newLength_6 rfl k) ?_
  replace h := ga_let_some h; obtain ⟨v7, ev7, h⟩ := h
  refine hw_nm ev7 ?_
  refine hw_1 (fun k => x_istore_n (ls' := [(3, (0, v7)), (0, (0, x0)), (1, (0, x1)), (2, (0, x2))]) dJ11_newLength_7 (by decide) rfl k) ?_
  refine hw_1 (fun k => x_iconst dJ11_newLength_8 (by decide) k) ?_
  refine hw_1 (fun k => x_iload_n dJ11_newLength_9 rfl k) ?_
  by_cases c10 : v7 ≤ 0
  · rw [if_pos c10] at h
    refine hw_1 (fun k => x_icmp_ge (tgt := 21) dJ11_newLength_10 (by decide) (fun _ => k) (fun z => absurd c10 z)) ?_
    refine hw_locs [1, 2] (ls' := [(0, (0, x0)), (1, (0, x1))]) rfl ?_
    refine h_J11_newLength_j21_ok hq hP h
  · rw [if_neg c10] at h
    refine hw_1 (fun k => x_icmp_ge (tgt := 21) dJ11_newLength_10 (by decide) (fun z => absurd z c10) (fun _ => k)) ?_
    refine hw_1 (fun k => x_iload_n dJ11_newLength_13 rfl k) ?_
    refine hw_1 (fun k => x_ldc (z := 2147483639) dJ11_newLength_14 q1962 (by decide) k) ?_
    by_cases c16 : 2147483639 < v7
    · rw [if_pos c16] at h
      refine hw_1 (fun k => x_icmp_gt (tgt := 21) dJ11_newLength_16 (by decide) (fun _ => k) (fun z => absurd c16 z)) ?_
      refine hw_locs [1, 2] (ls' := [(0, (0, x0)), (1, (0, x1))]) rfl ?_
      refine h_J11_newLength_j21_ok hq hP h
    · rw [if_neg c16] at h
      refine hw_1 (fun k => x_icmp_gt (tgt := 21) dJ11_newLength_16 (by decide) (fun z => absurd z c16) (fun _ => k)) ?_
      refine hw_1 (fun k => x_iload_n dJ11_newLength_19 rfl k) ?_
      obtain ⟨rfl, rfl⟩ := ga_end h
      exact hw_ret hP (x_iret dJ11_newLength_20 rfl rfl trivial hq)
theorem h_J2_grow_2_j20_ok {G : aw_G} {M0 : aw_M} {D' : ga_D} {Q : Option aw_V → aw_M → Prop} {r : Int} (hq : Q (some (2, r)) (hM D')) {x0 x1 x2 : Int} {D : ga_D} (hP : h_P D) (h : h_J2_grow_2_j20 x0 x1 x2 D = some (r, D')) : aw_HW G "java/util/ArrayList" cJ2_grow_2 (some (.array (.object "java/lang/Object"))) 4 9 false M0 Q aw_no D' (hn D') (hsl D') 20 [(0, (2, x0)), (1, (0, x1)), (2, (0, x2))] [] D := by
  unfold h_J2_grow_2_j20 at h
  refine hw_1 (fun k => x_iload_n dJ2_grow_2_20 rfl k) ?_
  refine hw_1 (fun k => x_iload_n dJ2_grow_2_21 rfl k) ?_
  refine hw_1 (fun k => x_iload_n dJ2_grow_2_22 rfl k) ?_
  refine hw_1 (fun k => x_isub dJ2_grow_2_23 rfl k) ?_
  refine hw_1 (fun k => x_iload_n dJ2_grow_2_24 rfl k) ?_
  refine hw_1 (fun k => x_iconst dJ2_grow_2_25 (by decide) k) ?_
  refine hw_1 (fun k => x_ishr dJ2_grow_2_26 rfl k) ?_
  replace h := ga_bind_some h; obtain ⟨r27, D27, g27, h⟩ := h
  have hR27 := (h_J11_newLength_ok (G := G) hP g27)
  obtain ⟨hP27, hE27, -⟩ := id hR27
  refine hw_call (rest := []) hR27 (fun hc hk9 => x_callS (as := [(0, x2), (0, aw_w32 (x1 - x2)), (0, aw_shr x2 1)]) (rest := []) dJ2_grow_2_27 hc (lw_S q1956 q1957 q442 q1958) (show _ ∧ _ ∧ _ = some 3 from by decide +kernel) (by decide) (by decide) rfl (Nat.le_of_ble_eq_true rfl) hk9 aw_nox) ?_
  refine hw_1 (fun k => x_istore_n (ls' := [(3, (0, r27)), (0, (2, x0)), (1, (0, x1)), (2, (0, x2))]) dJ2_grow_2_30 (by decide) rfl k) ?_
  refine hw_1 (fun k => x_aload_n dJ2_grow_2_31 rfl k) ?_
  refine hw_1 (fun k => x_aload_n dJ2_grow_2_32 rfl k) ?_
  replace h := ga_ck_some h; obtain ⟨hc33_0, h⟩ := h
  refine hw_1 (fun k => x_getf (v := D27 x0 1) dJ2_grow_2_33 fl_J2_9 hc33_0 rfl k) ?_
  refine hw_1 (fun k => x_iload_n dJ2_grow_2_36 rfl k) ?_
  replace h := ga_bind_some h; obtain ⟨r37, D37, g37, h⟩ := h
  have hR37 := (h_copyOf_ok (G := G) hP27 g37)
  obtain ⟨hP37, hE37, -⟩ := id hR37
  refine hw_call (rest := [(2, x0)]) hR37 (fun hc hk9 => x_callS (as := [(2, D27 x0 1), (0, r27)]) (rest := [(2, x0)]) dJ2_grow_2_37 hc (lw_S q1966 q1967 q443 q1968) (show _ ∧ _ ∧ _ = some 2 from by decide +kernel) (by decide) (by decide) rfl (Nat.le_of_ble_eq_true rfl) hk9 aw_nox) ?_
  refine hw_1 (fun k => x_dup_x1 dJ2_grow_2_40 rfl rfl k) ?_
  replace h := ga_let_some h; obtain ⟨D41, eD41, h⟩ := h
  refine hw_set eD41 (Int.le_trans (by decide) (hkge_60 (h_kx hE37 hc33_0 (by decide)))) (by decide) (fun k => x_putf dJ2_grow_2_41 fl_J2_9 rfl (h_kx hE37 hc33_0 (by decide)) (hkge_60 (h_kx hE37 hc33_0 (by decide))) trivial k) ?_
  have hP41 : h_P D41 := hP37.set eD41 (hkge_60 (h_kx hE37 hc33_0 (by decide))) (by decide) (hPn (h_kx hE37 hc33_0 (by decide)) rfl)
  have hE41 : h_E D37 D41 := h_E_set eD41 (by decide)
  obtain ⟨rfl, rfl⟩ := ga_end h
  exact hw_ret hP41 (x_aret dJ2_grow_2_44 rfl (by first | exact Or.inl ⟨_, rfl⟩ | exact Or.inr ⟨_, rfl⟩) hq)
theorem h_J2_grow_2_ok {G : aw_G} {D D' : ga_D} {r : Int} {x0 x1 : Int} (hP : h_P D) (h : h_J2_grow_2 x0 x1 D = some (r, D')) : aw_HR yJ2_grow_2 cJ2_grow_2 4 (some (.array (.object "java/lang/Object"))) 9 G [(2, x0), (0, x1)] D (some (2, r)) D' := by
  unfold h_J2_grow_2 at h
  refine hw_body (own := "java/util/ArrayList") (ini := false) (ls := [(0, (2, x0)), (1, (0, x1))]) rfl rfl (fun h => by cases h) (Nat.le_of_ble_eq_true rfl) rfl fun Q hq => ?_
  refine hw_1 (fun k => x_aload_n dJ2_grow_2_0 rfl k) ?_
  replace h := ga_ck_some h; obtain ⟨hc1_0, h⟩ := h
  refine hw_1 (fun k => x_getf (v := D x0 1) dJ2_grow_2_1 fl_J2_9 hc1_0 rfl k) ?_
  replace h := ga_ck_some h; obtain ⟨hc4_1, h⟩ := h
  refine hw_1 (fun k => x_alen (t := 17) dJ2_grow_2_4 (hk_p hc4_1) rfl k) ?_
  replace h := ga_let_some h; obtain ⟨v5, ev5, h⟩ := h
  refine hw_nm ev5 ?_
  refine hw_1 (fun k => x_istore_n (ls' := [(2, (0, v5)), (0, (2, x0)), (1, (0, x1))]) dJ2_grow_2_5 (by decide) rfl k) ?_
  refine hw_1 (fun k => x_iload_n dJ2_grow_2_6 rfl k) ?_
  by_cases c7 : 0 < v5
  · rw [if_pos c7] at h
    refine hw_1 (fun k => x_if_gt (tgt := 20) dJ2_grow_2_7 (by decide) (fun _ => k) (fun z => absurd c7 z)) ?_
    refine hw_locs [1, 2, 0] (ls' := [(0, (2, x0)), (1, (0, x1)), (2, (0, v5))]) rfl ?_
    refine h_J2_grow_2_j20_ok hq hP h
  · rw [if_neg c7] at h
    refine hw_1 (fun k => x_if_gt (tgt := 20) dJ2_grow_2_7 (by decide) (fun z => absurd z c7) (fun _ => k)) ?_
    refine hw_1 (fun k => x_aload_n dJ2_grow_2_10 rfl k) ?_
    refine hw_1 (fun k => x_getf (v := D x0 1) dJ2_grow_2_11 fl_J2_9 hc1_0 rfl k) ?_
    refine hw_1 (fun k => x_gets (tg := 2) (z := 157) dJ2_grow_2_14 q604 (by decide +kernel) k) ?_
    replace h := ga_ck_some h; obtain ⟨hc17_0, h⟩ := h
    by_cases c17 : D x0 1 = 157
    · rw [if_pos c17] at h
      refine hw_1 (fun k => x_acmp_eq (tgt := 45) dJ2_grow_2_17 (by decide) hc17_0 (fun _ => k) (fun z => absurd c17 z)) ?_
      refine hw_1 (fun k => x_aload_n dJ2_grow_2_45 rfl k) ?_
      refine hw_1 (fun k => x_bipush dJ2_grow_2_46 (by decide) k) ?_
      refine hw_1 (fun k => x_iload_n dJ2_grow_2_48 rfl k) ?_
      refine hw_1 (fun k => x_mmax dJ2_grow_2_49 q2071 q1960 q409 q1961 (by decide) (Nat.le_of_ble_eq_true rfl) rfl k) ?_
      replace h := ga_ck_some h; obtain ⟨hc52_0, h⟩ := h
      replace h := ga_let_some h; obtain ⟨z52, ez52, h⟩ := h
      replace h := ga_let_some h; obtain ⟨D52, eD52, h⟩ := h
      refine hy_anew (t := 17) hP ez52 eD52 rfl rfl dJ2_grow_2_52 rfl (by decide +kernel) q2072 hc52_0.1 hc52_0.2 (fun hP52 hE52 hz52 hg52 => ?_)
      refine hw_1 (fun k => x_dup_x1 dJ2_grow_2_55 rfl rfl k) ?_
      replace h := ga_let_some h; obtain ⟨D56, eD56, h⟩ := h
      refine hw_set eD56 (Int.le_trans (by decide) (hkge_60 (h_kx hE52 hc1_0 (by decide)))) (by decide) (fun k => x_putf dJ2_grow_2_56 fl_J2_9 rfl (h_kx hE52 hc1_0 (by decide)) (hkge_60 (h_kx hE52 hc1_0 (by decide))) trivial k) ?_
      have hP56 : h_P D56 := hP52.set eD56 (hkge_60 (h_kx hE52 hc1_0 (by decide))) (by decide) (hPn (h_kx hE52 hc1_0 (by decide)) rfl)
      have hE56 : h_E D52 D56 := h_E_set eD56 (by decide)
      obtain ⟨rfl, rfl⟩ := ga_end h
      exact hw_ret hP56 (x_aret dJ2_grow_2_59 rfl (by first | exact Or.inl ⟨_, rfl⟩ | exact Or.inr ⟨_, rfl⟩) hq)
    · rw [if_neg c17] at h
      refine hw_1 (fun k => x_acmp_eq (tgt := 45) dJ2_grow_2_17 (by decide) hc17_0 (fun z => absurd z c17) (fun _ => k)) ?_
      refine hw_locs [1, 2, 0] (ls' := [(0, (2, x0)), (1, (0, x1)), (2, (0, v5))]) rfl ?_
      refine h_J2_grow_2_j20_ok hq hP h
theorem h_J2_grow_ok {G : aw_G} {D D' : ga_D} {r : Int} {x0 : Int} (hP : h_P D) (h : h_J2_grow x0 D = some (r, D')) : aw_HR yJ2_grow cJ2_grow 1 (some (.array (.object "java/lang/Object"))) 10 G [(2, x0)] D (some (2, r)) D' := by
  unfold h_J2_grow at h
  refine hw_body (own := "java/util/ArrayList") (ini := false) (ls := [(0, (2, x0))]) rfl rfl (fun h => by cases h) (Nat.le_of_ble_eq_true rfl) rfl fun Q hq => ?_
  refine hw_1 (fun k => x_aload_n dJ2_grow_0 rfl k) ?_
  refine hw_1 (fun k => x_aload_n dJ2_grow_1 rfl k) ?_
  replace h := ga_ck_some h; obtain ⟨hc2_0, h⟩ := h
  refine hw_1 (fun k => x_getf (v := D x0 2) dJ2_grow_2 fl_J2_48 hc2_0 rfl k) ?_
  refine hw_1 (fun k => x_iconst dJ2_grow_5 (by decide) k) ?_
  refine hw_1 (fun k => x_iadd dJ2_grow_6 rfl k) ?_
  replace h := ga_bind_some h; obtain ⟨r7, D7, g7, h⟩ := h
  have hR7 := (h_J2_grow_2_ok (G := G) hP g7)
  obtain ⟨hP7, hE7, -⟩ := id hR7
  refine hw_call (rest := []) hR7 (fun hc hk9 => x_callV (as := [(0, aw_w32 ((D x0 2) + 1))]) (rest := []) dJ2_grow_7 hc (lw_V q1952 q1954 qs2 q401 q1955) hc2_0 rfl rfl (show _ ∧ _ ∧ _ ∧ _ = some 1 from by decide +kernel) (by decide) (by decide) rfl (Nat.le_of_ble_eq_true rfl) hk9 aw_nox) ?_
  obtain ⟨rfl, rfl⟩ := ga_end h
  exact hw_ret hP7 (x_aret dJ2_grow_10 rfl (by first | exact Or.inl ⟨_, rfl⟩ | exact Or.inr ⟨_, rfl⟩) hq)
theorem h_J2_add_2_j11_ok {G : aw_G} {M0 : aw_M} {D' : ga_D} {Q : Option aw_V → aw_M → Prop} {r : Int} (hq : Q none (hM D')) {x0 x1 x2 x3 : Int} {D : ga_D} (hP : h_P D) (h : h_J2_add_2_j11 x0 x1 x2 x3 D = some (r, D')) : aw_HW G "java/util/ArrayList" cJ2_add_2 none 4 11 false M0 Q aw_no D' (hn D') (hsl D') 11 [(0, (2, x0)), (1, (2, x1)), (2, (2, x2)), (3, (0, x3))] [] D := by
  unfold h_J2_add_2_j11 at h
  refine hw_1 (fun k => x_aload_n dJ2_add_2_11 rfl k) ?_
  refine hw_1 (fun k => x_iload_n dJ2_add_2_12 rfl k) ?_
  refine hw_1 (fun k => x_aload_n dJ2_add_2_13 rfl k) ?_
  replace h := ga_ck_some h; obtain ⟨hc14_0, h⟩ := h
  replace h := ga_ck_some h; obtain ⟨hc14_1, h⟩ := h
  replace h := ga_ck_some h; obtain ⟨hc14_2, h⟩ := h
  replace h := ga_let_some h; obtain ⟨D14, eD14, h⟩ := h
  refine hw_set eD14 (Int.le_trans (by decide) hc14_1) hc14_2.1 (fun k => x_aastO (t := 17) dJ2_add_2_14 (hk_p hc14_0) rfl hc14_1 hc14_2.1 hc14_2.2 k) ?_
  have hP14 : h_P D14 := hP.set eD14 hc14_1 hc14_2.1 (hPn (hk_p hc14_0) rfl)
  have hE14 : h_E D D14 := h_E_set eD14 hc14_2.1
  refine hw_1 (fun k => x_aload_n dJ2_add_2_15 rfl k) ?_
  refine hw_1 (fun k => x_iload_n dJ2_add_2_16 rfl k) ?_
  refine hw_1 (fun k => x_iconst dJ2_add_2_17 (by decide) k) ?_
  refine hw_1 (fun k => x_iadd dJ2_add_2_18 rfl k) ?_
  replace h := ga_ck_some h; obtain ⟨hc19_3, h⟩ := h
  replace h := ga_let_some h; obtain ⟨D19, eD19, h⟩ := h
  refine hw_set eD19 (Int.le_trans (by decide) (hkge_60 hc19_3)) (by decide) (fun k => x_putf dJ2_add_2_19 fl_J2_48 rfl hc19_3 (hkge_60 hc19_3) trivial k) ?_
  have hP19 : h_P D19 := hP14.set eD19 (hkge_60 hc19_3) (by decide) (hPn hc19_3 rfl)
  have hE19 : h_E D14 D19 := h_E_set eD19 (by decide)
  obtain ⟨rfl, rfl⟩ := ga_end h
  exact hw_ret hP19 (x_vret dJ2_add_2_22 rfl hq)
theorem h_J2_add_2_ok {G : aw_G} {D D' : ga_D} {r : Int} {x0 x1 x2 x3 : Int} (hP : h_P D) (h : h_J2_add_2 x0 x1 x2 x3 D = some (r, D')) : aw_HR yJ2_add_2 cJ2_add_2 4 none 11 G [(2, x0), (2, x1), (2, x2), (0, x3)] D none D' := by
  unfold h_J2_add_2 at h
  refine hw_body (own := "java/util/ArrayList") (ini := false) (ls := [(0, (2, x0)), (1, (2, x1)), (2, (2, x2)), (3, (0, x3))]) rfl rfl (fun h => by cases h) (Nat.le_of_ble_eq_true rfl) rfl fun Q hq => ?_
  refine hw_1 (fun k => x_iload_n dJ2_add_2_0 rfl k) ?_
  refine hw_1 (fun k => x_aload_n dJ2_add_2_1 rfl k) ?_
  replace h := ga_ck_some h; obtain ⟨hc2_0, h⟩ := h
  refine hw_1 (fun k => x_alen (t := 17) dJ2_add_2_2 (hk_p hc2_0) rfl k) ?_
  by_cases c3 : x3 ≠ (hk D x2).2
  · rw [if_pos c3] at h
    refine hw_1 (fun k => x_icmp_ne (tgt := 11) dJ2_add_2_3 (by decide) (fun _ => k) (fun z => absurd c3 z)) ?_
    refine h_J2_add_2_j11_ok hq hP h
  · rw [if_neg c3] at h
    refine hw_1 (fun k => x_icmp_ne (tgt := 11) dJ2_add_2_3 (by decide) (fun z => absurd z c3) (fun _ => k)) ?_
    refine hw_1 (fun k => x_aload_n dJ2_add_2_6 rfl k) ?_
    replace h := ga_ck_some h; obtain ⟨hc7_0, h⟩ := h
    replace h := ga_bind_some h; obtain ⟨r7, D7, g7, h⟩ := h
    have hR7 := (h_J2_grow_ok (G := G) hP g7)
    obtain ⟨hP7, hE7, -⟩ := id hR7
    refine hw_call (rest := []) hR7 (fun hc hk9 => x_callV (as := []) (rest := []) dJ2_add_2_7 hc (lw_V q1948 q1950 qs1 q401 q1951) hc7_0 rfl rfl (show _ ∧ _ ∧ _ ∧ _ = some 0 from by decide +kernel) (by decide) (by decide) rfl (Nat.le_of_ble_eq_true rfl) hk9 aw_nox) ?_
    refine hw_1 (fun k => x_astore_n (ls' := [(2, (2, r7)), (0, (2, x0)), (1, (2, x1)), (3, (0, x3))]) dJ2_add_2_10 (by decide) rfl k) ?_
    refine hw_locs [1, 2, 0, 3] (ls' := [(0, (2, x0)), (1, (2, x1)), (2, (2, r7)), (3, (0, x3))]) rfl ?_
    refine h_J2_add_2_j11_ok hq hP7 h
theorem h_J2_add_ok {G : aw_G} {D D' : ga_D} {r : Int} {x0 x1 : Int} (hP : h_P D) (h : h_J2_add x0 x1 D = some (r, D')) : aw_HR yJ2_add cJ2_add 2 (some (.boolean)) 12 G [(2, x0), (2, x1)] D (some (0, r)) D' := by
  unfold h_J2_add at h
  refine hw_body (own := "java/util/ArrayList") (ini := false) (ls := [(0, (2, x0)), (1, (2, x1))]) rfl rfl (fun h => by cases h) (Nat.le_of_ble_eq_true rfl) rfl fun Q hq => ?_
  refine hw_1 (fun k => x_aload_n dJ2_add_0 rfl k) ?_
  refine hw_1 (fun k => x_dup dJ2_add_1 rfl k) ?_
  replace h := ga_ck_some h; obtain ⟨hc2_0, h⟩ := h
  refine hw_1 (fun k => x_getf (v := D x0 0) dJ2_add_2 fl_J2_63 hc2_0 rfl k) ?_
  refine hw_1 (fun k => x_iconst dJ2_add_5 (by decide) k) ?_
  refine hw_1 (fun k => x_iadd dJ2_add_6 rfl k) ?_
  replace h := ga_let_some h; obtain ⟨D7, eD7, h⟩ := h
  refine hw_set eD7 (Int.le_trans (by decide) (hkge_60 hc2_0)) (by decide) (fun k => x_putf dJ2_add_7 fl_J2_63 rfl hc2_0 (hkge_60 hc2_0) trivial k) ?_
  have hP7 : h_P D7 := hP.set eD7 (hkge_60 hc2_0) (by decide) (hPn hc2_0 rfl)
  have hE7 : h_E D D7 := h_E_set eD7 (by decide)
  refine hw_1 (fun k => x_aload_n dJ2_add_10 rfl k) ?_
  refine hw_1 (fun k => x_aload_n dJ2_add_11 rfl k) ?_
  refine hw_1 (fun k => x_aload_n dJ2_add_12 rfl k) ?_
  refine hw_1 (fun k => x_getf (v := D7 x0 1) dJ2_add_13 fl_J2_9 (h_kx hE7 hc2_0 (by decide)) rfl k) ?_
  refine hw_1 (fun k => x_aload_n dJ2_add_16 rfl k) ?_
  refine hw_1 (fun k => x_getf (v := D7 x0 2) dJ2_add_17 fl_J2_48 (h_kx hE7 hc2_0 (by decide)) rfl k) ?_
  replace h := ga_bind_some h; obtain ⟨r20, D20, g20, h⟩ := h
  have hR20 := (h_J2_add_2_ok (G := G) hP7 g20)
  obtain ⟨hP20, hE20, -⟩ := id hR20
  refine hw_call (rest := []) hR20 (fun hc hk9 => x_callV (as := [(2, x1), (2, D7 x0 1), (0, D7 x0 2)]) (rest := []) dJ2_add_20 hc (lw_V q1944 q1946 qs0 q401 q1947) (h_kx hE7 hc2_0 (by decide)) rfl rfl (show _ ∧ _ ∧ _ ∧ _ = some 3 from by decide +kernel) (by decide) (by decide) rfl (Nat.le_of_ble_eq_true rfl) hk9 aw_nox) ?_
  refine hw_1 (fun k => x_iconst dJ2_add_23 (by decide) k) ?_
  obtain ⟨rfl, rfl⟩ := ga_end h
  exact hw_ret hP20 (x_iret dJ2_add_24 rfl rfl (show (0 : Int) ≤ 1 ∧ (1 : Int) < 2 from by decide) hq)
theorem h_J0_add_ok {G : aw_G} {D D' : ga_D} {r : Int} {x0 x1 : Int} (hP : h_P D) (h : h_J0_add x0 x1 D = some (r, D')) : aw_HR yJ0_add cJ0_add 2 (some (.boolean)) 0 G [(2, x0), (2, x1)] D (some (0, r)) D' := by
  unfold h_J0_add at h
  refine hw_body (own := "java/util/AbstractCollection") (ini := false) (ls := [(0, (2, x0)), (1, (2, x1))]) rfl rfl (fun h => by cases h) (Nat.le_of_ble_eq_true rfl) rfl fun Q hq => ?_
  exact absurd h (by intro h; cases h)
theorem h_J7_newCapacity_ok {G : aw_G} {D D' : ga_D} {r : Int} {x0 x1 x2 : Int} (hP : h_P D) (h : h_J7_newCapacity x0 x1 x2 D = some (r, D')) : aw_HR yJ7_newCapacity cJ7_newCapacity 5 (some (.int)) 0 G [(2, x0), (0, x1), (0, x2)] D (some (0, r)) D' := by
  unfold h_J7_newCapacity at h
  refine hw_body (own := "java/util/ArrayDeque") (ini := false) (ls := [(0, (2, x0)), (1, (0, x1)), (2, (0, x2))]) rfl rfl (fun h => by cases h) (Nat.le_of_ble_eq_true rfl) rfl fun Q hq => ?_
  refine hw_1 (fun k => x_aload_n dJ7_newCapacity_0 rfl k) ?_
  replace h := ga_ck_some h; obtain ⟨hc1_0, h⟩ := h
  refine hw_1 (fun k => x_getf (v := D x0 0) dJ7_newCapacity_1 fl_J7_3 hc1_0 rfl k) ?_
  replace h := ga_ck_some h; obtain ⟨hc4_1, h⟩ := h
  refine hw_1 (fun k => x_alen (t := 17) dJ7_newCapacity_4 (hk_p hc4_1) rfl k) ?_
  replace h := ga_let_some h; obtain ⟨v5, ev5, h⟩ := h
  refine hw_nm ev5 ?_
  refine hw_1 (fun k => x_istore_n (ls' := [(3, (0, v5)), (0, (2, x0)), (1, (0, x1)), (2, (0, x2))]) dJ7_newCapacity_5 (by decide) rfl k) ?_
  refine hw_1 (fun k => x_iload_n dJ7_newCapacity_6 rfl k) ?_
  refine hw_1 (fun k => x_iload_n dJ7_newCapacity_7 rfl k) ?_
  refine hw_1 (fun k => x_iadd dJ7_newCapacity_8 rfl k) ?_
  refine hw_1 (fun k => x_dup dJ7_newCapacity_9 rfl k) ?_
  replace h := ga_let_some h; obtain ⟨v10, ev10, h⟩ := h
  refine hw_nm ev10 ?_
  refine hw_1 (fun k => x_istore (ls' := [(4, (0, v10)), (3, (0, v5)), (0, (2, x0)), (1, (0, x1)), (2, (0, x2))]) dJ7_newCapacity_10 (by decide) rfl k) ?_
  refine hw_1 (fun k => x_ldc (z := 2147483639) dJ7_newCapacity_12 q4338 (by decide) k) ?_
  refine hw_1 (fun k => x_isub dJ7_newCapacity_14 rfl k) ?_
  by_cases c15 : aw_w32 ((aw_w32 (v5 + x1)) - 2147483639) ≤ 0
  · rw [if_pos c15] at h
    refine hw_1 (fun k => x_if_le (tgt := 36) dJ7_newCapacity_15 (by decide) (fun _ => k) (fun z => absurd c15 z)) ?_
    refine hw_1 (fun k => x_iload_n dJ7_newCapacity_36 rfl k) ?_
    refine hw_1 (fun k => x_iload_n dJ7_newCapacity_37 rfl k) ?_
    by_cases c38 : x1 ≤ x2
    · rw [if_pos c38] at h
      refine hw_1 (fun k => x_icmp_le (tgt := 44) dJ7_newCapacity_38 (by decide) (fun _ => k) (fun z => absurd c38 z)) ?_
      refine hw_1 (fun k => x_iload_n dJ7_newCapacity_44 rfl k) ?_
      refine hw_1 (fun k => x_iload_n dJ7_newCapacity_45 rfl k) ?_
      refine hw_1 (fun k => x_iadd dJ7_newCapacity_46 rfl k) ?_
      refine hw_1 (fun k => x_ldc (z := 2147483639) dJ7_newCapacity_47 q4338 (by decide) k) ?_
      refine hw_1 (fun k => x_isub dJ7_newCapacity_49 rfl k) ?_
      by_cases c50 : 0 ≤ aw_w32 ((aw_w32 (v5 + x2)) - 2147483639)
      · rw [if_pos c50] at h
        refine hw_1 (fun k => x_if_ge (tgt := 59) dJ7_newCapacity_50 (by decide) (fun _ => k) (fun z => absurd c50 z)) ?_
        refine hw_1 (fun k => x_ldc (z := 2147483639) dJ7_newCapacity_59 q4338 (by decide) k) ?_
        obtain ⟨rfl, rfl⟩ := ga_end h
        exact hw_ret hP (x_iret dJ7_newCapacity_61 rfl rfl trivial hq)
      · rw [if_neg c50] at h
        refine hw_1 (fun k => x_if_ge (tgt := 59) dJ7_newCapacity_50 (by decide) (fun z => absurd z c50) (fun _ => k)) ?_
        refine hw_1 (fun k => x_iload_n dJ7_newCapacity_53 rfl k) ?_
        refine hw_1 (fun k => x_iload_n dJ7_newCapacity_54 rfl k) ?_
        refine hw_1 (fun k => x_iadd dJ7_newCapacity_55 rfl k) ?_
        refine hw_1 (fun k => x_goto (tgt := 61) dJ7_newCapacity_56 (by decide) k) ?_
        obtain ⟨rfl, rfl⟩ := ga_end h
        exact hw_ret hP (x_iret dJ7_newCapacity_61 rfl rfl trivial hq)
    · rw [if_neg c38] at h
      refine hw_1 (fun k => x_icmp_le (tgt := 44) dJ7_newCapacity_38 (by decide) (fun z => absurd z c38) (fun _ => k)) ?_
      refine hw_1 (fun k => x_iload dJ7_newCapacity_41 rfl k) ?_
      obtain ⟨rfl, rfl⟩ := ga_end h
      exact hw_ret hP (x_iret dJ7_newCapacity_43 rfl rfl trivial hq)
  · rw [if_neg c15] at h
    refine hw_1 (fun k => x_if_le (tgt := 36) dJ7_newCapacity_15 (by decide) (fun z => absurd z c15) (fun _ => k)) ?_
    refine hw_1 (fun k => x_iload dJ7_newCapacity_18 rfl k) ?_
    by_cases c20 : 0 ≤ v10
    · rw [if_pos c20] at h
      refine hw_1 (fun k => x_if_ge (tgt := 33) dJ7_newCapacity_20 (by decide) (fun _ => k) (fun z => absurd c20 z)) ?_
      refine hw_1 (fun k => x_ldc (z := 2147483647) dJ7_newCapacity_33 q4359 (by decide) k) ?_
      obtain ⟨rfl, rfl⟩ := ga_end h
      exact hw_ret hP (x_iret dJ7_newCapacity_35 rfl rfl trivial hq)
    · rw [if_neg c20] at h
      refine hw_1 (fun k => x_if_ge (tgt := 33) dJ7_newCapacity_20 (by decide) (fun z => absurd z c20) (fun _ => k)) ?_
      exact absurd h (by intro h; cases h)
theorem h_J7_grow_l145_ok {G : aw_G} {M0 : aw_M} {D' : ga_D} {Q : Option aw_V → aw_M → Prop} {r : Int} (hq : Q none (hM D')) {k164 : ga_D → ga_S} (hk164 : ∀ (D : ga_D), h_P D → k164 D = some (r, D') → aw_HW G "java/util/ArrayDeque" cJ7_grow none 9 9 false M0 Q aw_no D' (hn D') (hsl D') 164 [] [] D) : ∀ {n : Nat} {x5 x7 x8 : Int} {D : ga_D}, h_P D → h_J7_grow_l145 n x5 x7 x8 D k164 = some (r, D') → aw_HW G "java/util/ArrayDeque" cJ7_grow none 9 9 false M0 Q aw_no D' (hn D') (hsl D') 145 [(5, (2, x5)), (7, (0, x7)), (8, (0, x8))] [] D := by
  intro n
  induction n with
  | zero => intro x5 x7 x8 D hP h; exact absurd (h : (none : ga_S) = some (r, D')) (by intro h; cases h)
  | succ n ih =>
    intro x5 x7 x8 D hP h
    have ih : ∀ (x5 x7 x8 : Int) (D : ga_D), h_P D → h_J7_grow_l145 n x5 x7 x8 D k164 = some (r, D') → aw_HW G "java/util/ArrayDeque" cJ7_grow none 9 9 false M0 Q aw_no D' (hn D') (hsl D') 145 [(5, (2, x5)), (7, (0, x7)), (8, (0, x8))] [] D := fun x5 x7 x8 D hP h => ih hP h
    replace h : (if x8 ≤ x7 then (k164 D) else (ga_ck ((hk D x5).1 = 1017) (ga_ck (4096 ≤ x5) (ga_ck (0 ≤ x7 ∧ x7 < (hk D x5).2) (ga_let (ga_set D x5 x7 0) (fun D157 => ga_let (aw_w32 (x7 + 1)) (fun v158 => h_J7_grow_l145 n x5 v158 x8 D157 k164)))))) : ga_S) = some (r, D') := h
    refine hw_1 (fun k => x_iload dJ7_grow_145 rfl k) ?_
    refine hw_1 (fun k => x_iload dJ7_grow_147 rfl k) ?_
    by_cases c149 : x8 ≤ x7
    · rw [if_pos c149] at h
      refine hw_1 (fun k => x_icmp_ge (tgt := 164) dJ7_grow_149 (by decide) (fun _ => k) (fun z => absurd c149 z)) ?_
      refine hw_locs [] (ls' := []) rfl ?_
      exact hk164 _ hP h
    · rw [if_neg c149] at h
      refine hw_1 (fun k => x_icmp_ge (tgt := 164) dJ7_grow_149 (by decide) (fun z => absurd z c149) (fun _ => k)) ?_
      refine hw_1 (fun k => x_aload dJ7_grow_152 rfl k) ?_
      refine hw_1 (fun k => x_iload dJ7_grow_154 rfl k) ?_
      refine hw_1 (fun k => x_null dJ7_grow_156 k) ?_
      replace h := ga_ck_some h; obtain ⟨hc157_0, h⟩ := h
      replace h := ga_ck_some h; obtain ⟨hc157_1, h⟩ := h
      replace h := ga_ck_some h; obtain ⟨hc157_2, h⟩ := h
      replace h := ga_let_some h; obtain ⟨D157, eD157, h⟩ := h
      refine hw_set eD157 (Int.le_trans (by decide) hc157_1) hc157_2.1 (fun k => x_aastN (t := 17) dJ7_grow_157 (hk_p hc157_0) rfl hc157_1 hc157_2.1 hc157_2.2 rfl k) ?_
      have hP157 : h_P D157 := hP.set eD157 hc157_1 hc157_2.1 (hPn (hk_p hc157_0) rfl)
      have hE157 : h_E D D157 := h_E_set eD157 hc157_2.1
      replace h := ga_let_some h; obtain ⟨v158, ev158, h⟩ := h
      refine hw_1 (fun k => x_iinc (ls' := [(7, (0, v158)), (5, (2, x5)), (8, (0, x8))]) dJ7_grow_158 rfl ev158.symm (by decide) rfl k) ?_
      refine hw_1 (fun k => x_goto (tgt := 145) dJ7_grow_161 (by decide) k) ?_
      refine hw_locs [1, 0, 2] (ls' := [(5, (2, x5)), (7, (0, v158)), (8, (0, x8))]) rfl ?_
      exact ih _ _ _ _ hP157 h
theorem h_J7_grow_j96_ok {G : aw_G} {M0 : aw_M} {D' : ga_D} {Q : Option aw_V → aw_M → Prop} {r : Int} (hq : Q none (hM D')) {x0 x2 x3 x5 : Int} {D : ga_D} (hP : h_P D) (h : h_J7_grow_j96 x0 x2 x3 x5 D = some (r, D')) : aw_HW G "java/util/ArrayDeque" cJ7_grow none 9 9 false M0 Q aw_no D' (hn D') (hsl D') 96 [(0, (2, x0)), (2, (0, x2)), (3, (0, x3)), (5, (2, x5))] [] D := by
  unfold h_J7_grow_j96 at h
  refine hw_1 (fun k => x_iload_n dJ7_grow_96 rfl k) ?_
  refine hw_1 (fun k => x_iload_n dJ7_grow_97 rfl k) ?_
  refine hw_1 (fun k => x_isub dJ7_grow_98 rfl k) ?_
  replace h := ga_let_some h; obtain ⟨v99, ev99, h⟩ := h
  refine hw_nm ev99 ?_
  refine hw_1 (fun k => x_istore (ls' := [(6, (0, v99)), (0, (2, x0)), (2, (0, x2)), (3, (0, x3)), (5, (2, x5))]) dJ7_grow_99 (by decide) rfl k) ?_
  refine hw_1 (fun k => x_aload dJ7_grow_101 rfl k) ?_
  refine hw_1 (fun k => x_aload_n dJ7_grow_103 rfl k) ?_
  replace h := ga_ck_some h; obtain ⟨hc104_0, h⟩ := h
  refine hw_1 (fun k => x_getf (v := D x0 1) dJ7_grow_104 fl_J7_24 hc104_0 rfl k) ?_
  refine hw_1 (fun k => x_aload dJ7_grow_107 rfl k) ?_
  refine hw_1 (fun k => x_aload_n dJ7_grow_109 rfl k) ?_
  refine hw_1 (fun k => x_getf (v := D x0 1) dJ7_grow_110 fl_J7_24 hc104_0 rfl k) ?_
  refine hw_1 (fun k => x_iload dJ7_grow_113 rfl k) ?_
  refine hw_1 (fun k => x_iadd dJ7_grow_115 rfl k) ?_
  refine hw_1 (fun k => x_iload_n dJ7_grow_116 rfl k) ?_
  refine hw_1 (fun k => x_aload_n dJ7_grow_117 rfl k) ?_
  refine hw_1 (fun k => x_getf (v := D x0 1) dJ7_grow_118 fl_J7_24 hc104_0 rfl k) ?_
  refine hw_1 (fun k => x_isub dJ7_grow_121 rfl k) ?_
  replace h := ga_ck_some h; obtain ⟨hc122_1, h⟩ := h
  replace h := ga_ck_some h; obtain ⟨hc122_2, h⟩ := h
  replace h := ga_ck_some h; obtain ⟨hc122_3, h⟩ := h
  replace h := ga_let_some h; obtain ⟨D122, eD122, h⟩ := h
  refine hw_cp eD122 (Int.le_trans (by decide) hc122_2) hc122_3.2.1 (fun k => x_copyR (t := 17) rfl dJ7_grow_122 q4361 q2070 q2069 q444 (hk_p hc122_1) (hk_p hc122_1) rfl hc122_2 hc122_3 (by decide) (Nat.le_of_ble_eq_true rfl) k) ?_
  have hP122 : h_P D122 := hP.cp eD122 hc122_2 hc122_3.2.1 (fun _ => hPn (hk_p hc122_1) rfl)
  have hE122 : h_E D D122 := h_E_cp eD122 hc122_3.2.1
  refine hw_1 (fun k => x_aload_n dJ7_grow_125 rfl k) ?_
  refine hw_1 (fun k => x_getf (v := D122 x0 1) dJ7_grow_126 fl_J7_24 (h_kx hE122 hc104_0 (by decide)) rfl k) ?_
  replace h := ga_let_some h; obtain ⟨v129, ev129, h⟩ := h
  refine hw_nm ev129 ?_
  refine hw_1 (fun k => x_istore (ls' := [(7, (0, v129)), (6, (0, v99)), (0, (2, x0)), (2, (0, x2)), (3, (0, x3)), (5, (2, x5))]) dJ7_grow_129 (by decide) rfl k) ?_
  refine hw_1 (fun k => x_aload_n dJ7_grow_131 rfl k) ?_
  refine hw_1 (fun k => x_dup dJ7_grow_132 rfl k) ?_
  refine hw_1 (fun k => x_getf (v := D122 x0 1) dJ7_grow_133 fl_J7_24 (h_kx hE122 hc104_0 (by decide)) rfl k) ?_
  refine hw_1 (fun k => x_iload dJ7_grow_136 rfl k) ?_
  refine hw_1 (fun k => x_iadd dJ7_grow_138 rfl k) ?_
  refine hw_1 (fun k => x_dup_x1 dJ7_grow_139 rfl rfl k) ?_
  replace h := ga_let_some h; obtain ⟨D140, eD140, h⟩ := h
  refine hw_set eD140 (Int.le_trans (by decide) (hkge_62 (h_kx hE122 hc104_0 (by decide)))) (by decide) (fun k => x_putf dJ7_grow_140 fl_J7_24 rfl (h_kx hE122 hc104_0 (by decide)) (hkge_62 (h_kx hE122 hc104_0 (by decide))) trivial k) ?_
  have hP140 : h_P D140 := hP122.set eD140 (hkge_62 (h_kx hE122 hc104_0 (by decide))) (by decide) (hPn (h_kx hE122 hc104_0 (by decide)) rfl)
  have hE140 : h_E D122 D140 := h_E_set eD140 (by decide)
  replace h := ga_let_some h; obtain ⟨v143, ev143, h⟩ := h
  refine hw_nm ev143 ?_
  refine hw_1 (fun k => x_istore (ls' := [(8, (0, v143)), (7, (0, v129)), (6, (0, v99)), (0, (2, x0)), (2, (0, x2)), (3, (0, x3)), (5, (2, x5))]) dJ7_grow_143 (by decide) rfl k) ?_
  refine hw_locs [6, 1, 0] (ls' := [(5, (2, x5)), (7, (0, v129)), (8, (0, v143))]) rfl ?_
  refine h_J7_grow_l145_ok hq (fun D164 hP h => ?_) hP140 h
  · obtain ⟨rfl, rfl⟩ := ga_end h
    exact hw_ret hP (x_vret dJ7_grow_164 rfl hq)
theorem h_J7_grow_j49_ok {G : aw_G} {M0 : aw_M} {D' : ga_D} {Q : Option aw_V → aw_M → Prop} {r : Int} (hq : Q none (hM D')) {x0 x2 x3 : Int} {D : ga_D} (hP : h_P D) (h : h_J7_grow_j49 x0 x2 x3 D = some (r, D')) : aw_HW G "java/util/ArrayDeque" cJ7_grow none 9 9 false M0 Q aw_no D' (hn D') (hsl D') 49 [(0, (2, x0)), (2, (0, x2)), (3, (0, x3))] [] D := by
  unfold h_J7_grow_j49 at h
  refine hw_1 (fun k => x_aload_n dJ7_grow_49 rfl k) ?_
  refine hw_1 (fun k => x_aload_n dJ7_grow_50 rfl k) ?_
  replace h := ga_ck_some h; obtain ⟨hc51_0, h⟩ := h
  refine hw_1 (fun k => x_getf (v := D x0 0) dJ7_grow_51 fl_J7_3 hc51_0 rfl k) ?_
  refine hw_1 (fun k => x_iload_n dJ7_grow_54 rfl k) ?_
  replace h := ga_bind_some h; obtain ⟨r55, D55, g55, h⟩ := h
  have hR55 := (h_copyOf_ok (G := G) hP g55)
  obtain ⟨hP55, hE55, -⟩ := id hR55
  refine hw_call (rest := [(2, x0)]) hR55 (fun hc hk9 => x_callS (as := [(2, D x0 0), (0, x3)]) (rest := [(2, x0)]) dJ7_grow_55 hc (lw_S q4360 q1967 q443 q1968) (show _ ∧ _ ∧ _ = some 2 from by decide +kernel) (by decide) (by decide) rfl (Nat.le_of_ble_eq_true rfl) hk9 aw_nox) ?_
  refine hw_1 (fun k => x_dup_x1 dJ7_grow_58 rfl rfl k) ?_
  replace h := ga_let_some h; obtain ⟨D59, eD59, h⟩ := h
  refine hw_set eD59 (Int.le_trans (by decide) (hkge_62 (h_kx hE55 hc51_0 (by decide)))) (by decide) (fun k => x_putf dJ7_grow_59 fl_J7_3 rfl (h_kx hE55 hc51_0 (by decide)) (hkge_62 (h_kx hE55 hc51_0 (by decide))) trivial k) ?_
  have hP59 : h_P D59 := hP55.set eD59 (hkge_62 (h_kx hE55 hc51_0 (by decide))) (by decide) (hPn (h_kx hE55 hc51_0 (by decide)) rfl)
  have hE59 : h_E D55 D59 := h_E_set eD59 (by decide)
  refine hw_1 (fun k => x_astore (ls' := [(5, (2, r55)), (0, (2, x0)), (2, (0, x2)), (3, (0, x3))]) dJ7_grow_62 (by decide) rfl k) ?_
  refine hw_1 (fun k => x_aload_n dJ7_grow_64 rfl k) ?_
  refine hw_1 (fun k => x_getf (v := D59 x0 2) dJ7_grow_65 fl_J7_20 (h_kx hE59 (h_kx hE55 hc51_0 (by decide)) (by decide)) rfl k) ?_
  refine hw_1 (fun k => x_aload_n dJ7_grow_68 rfl k) ?_
  refine hw_1 (fun k => x_getf (v := D59 x0 1) dJ7_grow_69 fl_J7_24 (h_kx hE59 (h_kx hE55 hc51_0 (by decide)) (by decide)) rfl k) ?_
  by_cases c72 : D59 x0 2 < D59 x0 1
  · rw [if_pos c72] at h
    refine hw_1 (fun k => x_icmp_lt (tgt := 96) dJ7_grow_72 (by decide) (fun _ => k) (fun z => absurd c72 z)) ?_
    refine hw_locs [1, 2, 3, 0] (ls' := [(0, (2, x0)), (2, (0, x2)), (3, (0, x3)), (5, (2, r55))]) rfl ?_
    refine h_J7_grow_j96_ok hq hP59 h
  · rw [if_neg c72] at h
    refine hw_1 (fun k => x_icmp_lt (tgt := 96) dJ7_grow_72 (by decide) (fun z => absurd z c72) (fun _ => k)) ?_
    refine hw_1 (fun k => x_aload_n dJ7_grow_75 rfl k) ?_
    refine hw_1 (fun k => x_getf (v := D59 x0 2) dJ7_grow_76 fl_J7_20 (h_kx hE59 (h_kx hE55 hc51_0 (by decide)) (by decide)) rfl k) ?_
    refine hw_1 (fun k => x_aload_n dJ7_grow_79 rfl k) ?_
    refine hw_1 (fun k => x_getf (v := D59 x0 1) dJ7_grow_80 fl_J7_24 (h_kx hE59 (h_kx hE55 hc51_0 (by decide)) (by decide)) rfl k) ?_
    by_cases c83 : D59 x0 2 ≠ D59 x0 1
    · rw [if_pos c83] at h
      refine hw_1 (fun k => x_icmp_ne (tgt := 164) dJ7_grow_83 (by decide) (fun _ => k) (fun z => absurd c83 z)) ?_
      obtain ⟨rfl, rfl⟩ := ga_end h
      exact hw_ret hP59 (x_vret dJ7_grow_164 rfl hq)
    · rw [if_neg c83] at h
      refine hw_1 (fun k => x_icmp_ne (tgt := 164) dJ7_grow_83 (by decide) (fun z => absurd z c83) (fun _ => k)) ?_
      refine hw_1 (fun k => x_aload dJ7_grow_86 rfl k) ?_
      refine hw_1 (fun k => x_aload_n dJ7_grow_88 rfl k) ?_
      refine hw_1 (fun k => x_getf (v := D59 x0 1) dJ7_grow_89 fl_J7_24 (h_kx hE59 (h_kx hE55 hc51_0 (by decide)) (by decide)) rfl k) ?_
      replace h := ga_ck_some h; obtain ⟨hc92_0, h⟩ := h
      replace h := ga_ck_some h; obtain ⟨hc92_1, h⟩ := h
      refine hw_1 (fun k => x_aald (t := 17) (v := D59 r55 (D59 x0 1)) dJ7_grow_92 (hk_p hc92_0) rfl rfl hc92_1.1 hc92_1.2 rfl k) ?_
      by_cases c93 : D59 r55 (D59 x0 1) = 0
      · rw [if_pos c93] at h
        refine hw_1 (fun k => x_ifnull (tgt := 164) dJ7_grow_93 (by decide) (fun _ => k) (fun z => absurd c93 z)) ?_
        obtain ⟨rfl, rfl⟩ := ga_end h
        exact hw_ret hP59 (x_vret dJ7_grow_164 rfl hq)
      · rw [if_neg c93] at h
        refine hw_1 (fun k => x_ifnull (tgt := 164) dJ7_grow_93 (by decide) (fun z => absurd z c93) (fun _ => k)) ?_
        refine hw_locs [1, 2, 3, 0] (ls' := [(0, (2, x0)), (2, (0, x2)), (3, (0, x3)), (5, (2, r55))]) rfl ?_
        refine h_J7_grow_j96_ok hq hP59 h
theorem h_J7_grow_j41_ok {G : aw_G} {M0 : aw_M} {D' : ga_D} {Q : Option aw_V → aw_M → Prop} {r : Int} (hq : Q none (hM D')) {x0 x1 x2 x4 : Int} {D : ga_D} (hP : h_P D) (h : h_J7_grow_j41 x0 x1 x2 x4 D = some (r, D')) : aw_HW G "java/util/ArrayDeque" cJ7_grow none 9 9 false M0 Q aw_no D' (hn D') (hsl D') 41 [(0, (2, x0)), (1, (0, x1)), (2, (0, x2)), (4, (0, x4))] [] D := by
  unfold h_J7_grow_j41 at h
  refine hw_1 (fun k => x_aload_n dJ7_grow_41 rfl k) ?_
  refine hw_1 (fun k => x_iload_n dJ7_grow_42 rfl k) ?_
  refine hw_1 (fun k => x_iload dJ7_grow_43 rfl k) ?_
  replace h := ga_ck_some h; obtain ⟨hc45_0, h⟩ := h
  replace h := ga_bind_some h; obtain ⟨r45, D45, g45, h⟩ := h
  have hR45 := (h_J7_newCapacity_ok (G := G) hP g45)
  obtain ⟨hP45, hE45, -⟩ := id hR45
  refine hw_call (rest := []) hR45 (fun hc hk9 => x_callV (as := [(0, x1), (0, x4)]) (rest := []) dJ7_grow_45 hc (lw_V q4339 q4341 qs42 q435 q4342) hc45_0 rfl rfl (show _ ∧ _ ∧ _ ∧ _ = some 2 from by decide +kernel) (by decide) (by decide) rfl (Nat.le_of_ble_eq_true rfl) hk9 aw_nox) ?_
  refine hw_1 (fun k => x_istore_n (ls' := [(3, (0, r45)), (0, (2, x0)), (1, (0, x1)), (2, (0, x2)), (4, (0, x4))]) dJ7_grow_48 (by decide) rfl k) ?_
  refine hw_locs [1, 3, 0] (ls' := [(0, (2, x0)), (2, (0, x2)), (3, (0, r45))]) rfl ?_
  refine h_J7_grow_j49_ok hq hP45 h
theorem h_J7_grow_j21_ok {G : aw_G} {M0 : aw_M} {D' : ga_D} {Q : Option aw_V → aw_M → Prop} {r : Int} (hq : Q none (hM D')) {x0 x1 x2 s0 : Int} {D : ga_D} (hP : h_P D) (h : h_J7_grow_j21 x0 x1 x2 s0 D = some (r, D')) : aw_HW G "java/util/ArrayDeque" cJ7_grow none 9 9 false M0 Q aw_no D' (hn D') (hsl D') 21 [(0, (2, x0)), (1, (0, x1)), (2, (0, x2))] [(0, s0)] D := by
  unfold h_J7_grow_j21 at h
  refine hw_1 (fun k => x_istore (ls' := [(4, (0, s0)), (0, (2, x0)), (1, (0, x1)), (2, (0, x2))]) dJ7_grow_21 (by decide) rfl k) ?_
  refine hw_1 (fun k => x_iload dJ7_grow_23 rfl k) ?_
  refine hw_1 (fun k => x_iload_n dJ7_grow_25 rfl k) ?_
  by_cases c26 : s0 < x1
  · rw [if_pos c26] at h
    refine hw_1 (fun k => x_icmp_lt (tgt := 41) dJ7_grow_26 (by decide) (fun _ => k) (fun z => absurd c26 z)) ?_
    refine hw_locs [1, 2, 3, 0] (ls' := [(0, (2, x0)), (1, (0, x1)), (2, (0, x2)), (4, (0, s0))]) rfl ?_
    refine h_J7_grow_j41_ok hq hP h
  · rw [if_neg c26] at h
    refine hw_1 (fun k => x_icmp_lt (tgt := 41) dJ7_grow_26 (by decide) (fun z => absurd z c26) (fun _ => k)) ?_
    refine hw_1 (fun k => x_iload_n dJ7_grow_29 rfl k) ?_
    refine hw_1 (fun k => x_iload dJ7_grow_30 rfl k) ?_
    refine hw_1 (fun k => x_iadd dJ7_grow_32 rfl k) ?_
    refine hw_1 (fun k => x_dup dJ7_grow_33 rfl k) ?_
    replace h := ga_let_some h; obtain ⟨v34, ev34, h⟩ := h
    refine hw_nm ev34 ?_
    refine hw_1 (fun k => x_istore_n (ls' := [(3, (0, v34)), (4, (0, s0)), (0, (2, x0)), (1, (0, x1)), (2, (0, x2))]) dJ7_grow_34 (by decide) rfl k) ?_
    refine hw_1 (fun k => x_ldc (z := 2147483639) dJ7_grow_35 q4338 (by decide) k) ?_
    refine hw_1 (fun k => x_isub dJ7_grow_37 rfl k) ?_
    by_cases c38 : aw_w32 ((aw_w32 (x2 + s0)) - 2147483639) ≤ 0
    · rw [if_pos c38] at h
      refine hw_1 (fun k => x_if_le (tgt := 49) dJ7_grow_38 (by decide) (fun _ => k) (fun z => absurd c38 z)) ?_
      refine hw_locs [2, 4, 0] (ls' := [(0, (2, x0)), (2, (0, x2)), (3, (0, v34))]) rfl ?_
      refine h_J7_grow_j49_ok hq hP h
    · rw [if_neg c38] at h
      refine hw_1 (fun k => x_if_le (tgt := 49) dJ7_grow_38 (by decide) (fun z => absurd z c38) (fun _ => k)) ?_
      refine hw_locs [2, 3, 4, 1] (ls' := [(0, (2, x0)), (1, (0, x1)), (2, (0, x2)), (4, (0, s0))]) rfl ?_
      refine h_J7_grow_j41_ok hq hP h
theorem h_J7_grow_ok {G : aw_G} {D D' : ga_D} {r : Int} {x0 x1 : Int} (hP : h_P D) (h : h_J7_grow x0 x1 D = some (r, D')) : aw_HR yJ7_grow cJ7_grow 9 none 9 G [(2, x0), (0, x1)] D none D' := by
  unfold h_J7_grow at h
  refine hw_body (own := "java/util/ArrayDeque") (ini := false) (ls := [(0, (2, x0)), (1, (0, x1))]) rfl rfl (fun h => by cases h) (Nat.le_of_ble_eq_true rfl) rfl fun Q hq => ?_
  refine hw_1 (fun k => x_aload_n dJ7_grow_0 rfl k) ?_
  replace h := ga_ck_some h; obtain ⟨hc1_0, h⟩ := h
  refine hw_1 (fun k => x_getf (v := D x0 0) dJ7_grow_1 fl_J7_3 hc1_0 rfl k) ?_
  replace h := ga_ck_some h; obtain ⟨hc4_1, h⟩ := h
  refine hw_1 (fun k => x_alen (t := 17) dJ7_grow_4 (hk_p hc4_1) rfl k) ?_
  replace h := ga_let_some h; obtain ⟨v5, ev5, h⟩ := h
  refine hw_nm ev5 ?_
  refine hw_1 (fun k => x_istore_n (ls' := [(2, (0, v5)), (0, (2, x0)), (1, (0, x1))]) dJ7_grow_5 (by decide) rfl k) ?_
  refine hw_1 (fun k => x_iload_n dJ7_grow_6 rfl k) ?_
  refine hw_1 (fun k => x_bipush dJ7_grow_7 (by decide) k) ?_
  by_cases c9 : 64 ≤ v5
  · rw [if_pos c9] at h
    refine hw_1 (fun k => x_icmp_ge (tgt := 18) dJ7_grow_9 (by decide) (fun _ => k) (fun z => absurd c9 z)) ?_
    refine hw_1 (fun k => x_iload_n dJ7_grow_18 rfl k) ?_
    refine hw_1 (fun k => x_iconst dJ7_grow_19 (by decide) k) ?_
    refine hw_1 (fun k => x_ishr dJ7_grow_20 rfl k) ?_
    refine hw_locs [1, 2, 0] (ls' := [(0, (2, x0)), (1, (0, x1)), (2, (0, v5))]) rfl ?_
    refine h_J7_grow_j21_ok hq hP h
  · rw [if_neg c9] at h
    refine hw_1 (fun k => x_icmp_ge (tgt := 18) dJ7_grow_9 (by decide) (fun z => absurd z c9) (fun _ => k)) ?_
    refine hw_1 (fun k => x_iload_n dJ7_grow_12 rfl k) ?_
    refine hw_1 (fun k => x_iconst dJ7_grow_13 (by decide) k) ?_
    refine hw_1 (fun k => x_iadd dJ7_grow_14 rfl k) ?_
    refine hw_1 (fun k => x_goto (tgt := 21) dJ7_grow_15 (by decide) k) ?_
    refine hw_locs [1, 2, 0] (ls' := [(0, (2, x0)), (1, (0, x1)), (2, (0, v5))]) rfl ?_
    refine h_J7_grow_j21_ok hq hP h
theorem h_J7_addLast_ok {G : aw_G} {D D' : ga_D} {r : Int} {x0 x1 : Int} (hP : h_P D) (h : h_J7_addLast x0 x1 D = some (r, D')) : aw_HR yJ7_addLast cJ7_addLast 3 none 10 G [(2, x0), (2, x1)] D none D' := by
  unfold h_J7_addLast at h
  refine hw_body (own := "java/util/ArrayDeque") (ini := false) (ls := [(0, (2, x0)), (1, (2, x1))]) rfl rfl (fun h => by cases h) (Nat.le_of_ble_eq_true rfl) rfl fun Q hq => ?_
  refine hw_1 (fun k => x_aload_n dJ7_addLast_0 rfl k) ?_
  by_cases c1 : x1 ≠ 0
  · rw [if_pos c1] at h
    refine hw_1 (fun k => x_ifnonnull (tgt := 12) dJ7_addLast_1 (by decide) (fun _ => k) (fun z => absurd c1 z)) ?_
    refine hw_1 (fun k => x_aload_n dJ7_addLast_12 rfl k) ?_
    replace h := ga_ck_some h; obtain ⟨hc13_0, h⟩ := h
    refine hw_1 (fun k => x_getf (v := D x0 0) dJ7_addLast_13 fl_J7_3 hc13_0 rfl k) ?_
    replace h := ga_let_some h; obtain ⟨v16, ev16, h⟩ := h
    refine hw_nm ev16 ?_
    refine hw_1 (fun k => x_astore_n (ls' := [(2, (2, v16)), (0, (2, x0)), (1, (2, x1))]) dJ7_addLast_16 (by decide) rfl k) ?_
    refine hw_1 (fun k => x_aload_n dJ7_addLast_17 rfl k) ?_
    refine hw_1 (fun k => x_aload_n dJ7_addLast_18 rfl k) ?_
    refine hw_1 (fun k => x_getf (v := D x0 2) dJ7_addLast_19 fl_J7_20 hc13_0 rfl k) ?_
    refine hw_1 (fun k => x_aload_n dJ7_addLast_22 rfl k) ?_
    replace h := ga_ck_some h; obtain ⟨hc23_1, h⟩ := h
    replace h := ga_ck_some h; obtain ⟨hc23_2, h⟩ := h
    replace h := ga_ck_some h; obtain ⟨hc23_3, h⟩ := h
    replace h := ga_let_some h; obtain ⟨D23, eD23, h⟩ := h
    refine hw_set eD23 (Int.le_trans (by decide) hc23_2) hc23_3.1 (fun k => x_aastO (t := 17) dJ7_addLast_23 (hk_p hc23_1) rfl hc23_2 hc23_3.1 hc23_3.2 k) ?_
    have hP23 : h_P D23 := hP.set eD23 hc23_2 hc23_3.1 (hPn (hk_p hc23_1) rfl)
    have hE23 : h_E D D23 := h_E_set eD23 hc23_3.1
    refine hw_1 (fun k => x_aload_n dJ7_addLast_24 rfl k) ?_
    refine hw_1 (fun k => x_getf (v := D23 x0 1) dJ7_addLast_25 fl_J7_24 (h_kx hE23 hc13_0 (by decide)) rfl k) ?_
    refine hw_1 (fun k => x_aload_n dJ7_addLast_28 rfl k) ?_
    refine hw_1 (fun k => x_aload_n dJ7_addLast_29 rfl k) ?_
    refine hw_1 (fun k => x_getf (v := D23 x0 2) dJ7_addLast_30 fl_J7_20 (h_kx hE23 hc13_0 (by decide)) rfl k) ?_
    refine hw_1 (fun k => x_aload_n dJ7_addLast_33 rfl k) ?_
    refine hw_1 (fun k => x_alen (t := 17) dJ7_addLast_34 (h_kx hE23 (hk_p hc23_1) (by decide)) rfl k) ?_
    replace h := ga_bind_some h; obtain ⟨r35, D35, g35, h⟩ := h
    have hR35 := (h_J7_inc_ok (G := G) hP23 g35)
    obtain ⟨hP35, hE35, -⟩ := id hR35
    refine hw_call (rest := [(2, x0), (0, D23 x0 1)]) hR35 (fun hc hk9 => x_callS (as := [(0, D23 x0 2), (0, (hk D v16).2)]) (rest := [(2, x0), (0, D23 x0 1)]) dJ7_addLast_35 hc (lw_S q4333 q3005 q435 q3006) (show _ ∧ _ ∧ _ = some 2 from by decide +kernel) (by decide) (by decide) rfl (Nat.le_of_ble_eq_true rfl) hk9 aw_nox) ?_
    refine hw_1 (fun k => x_dup_x1 dJ7_addLast_38 rfl rfl k) ?_
    replace h := ga_let_some h; obtain ⟨D39, eD39, h⟩ := h
    refine hw_set eD39 (Int.le_trans (by decide) (hkge_62 (h_kx hE35 (h_kx hE23 hc13_0 (by decide)) (by decide)))) (by decide) (fun k => x_putf dJ7_addLast_39 fl_J7_20 rfl (h_kx hE35 (h_kx hE23 hc13_0 (by decide)) (by decide)) (hkge_62 (h_kx hE35 (h_kx hE23 hc13_0 (by decide)) (by decide))) trivial k) ?_
    have hP39 : h_P D39 := hP35.set eD39 (hkge_62 (h_kx hE35 (h_kx hE23 hc13_0 (by decide)) (by decide))) (by decide) (hPn (h_kx hE35 (h_kx hE23 hc13_0 (by decide)) (by decide)) rfl)
    have hE39 : h_E D35 D39 := h_E_set eD39 (by decide)
    by_cases c42 : D23 x0 1 ≠ r35
    · rw [if_pos c42] at h
      refine hw_1 (fun k => x_icmp_ne (tgt := 50) dJ7_addLast_42 (by decide) (fun _ => k) (fun z => absurd c42 z)) ?_
      obtain ⟨rfl, rfl⟩ := ga_end h
      exact hw_ret hP39 (x_vret dJ7_addLast_50 rfl hq)
    · rw [if_neg c42] at h
      refine hw_1 (fun k => x_icmp_ne (tgt := 50) dJ7_addLast_42 (by decide) (fun z => absurd z c42) (fun _ => k)) ?_
      refine hw_1 (fun k => x_aload_n dJ7_addLast_45 rfl k) ?_
      refine hw_1 (fun k => x_iconst dJ7_addLast_46 (by decide) k) ?_
      replace h := ga_bind_some h; obtain ⟨r47, D47, g47, h⟩ := h
      have hR47 := (h_J7_grow_ok (G := G) hP39 g47)
      obtain ⟨hP47, hE47, -⟩ := id hR47
      refine hw_call (rest := []) hR47 (fun hc hk9 => x_callV (as := [(0, 1)]) (rest := []) dJ7_addLast_47 hc (lw_V q4334 q4336 qs41 q435 q4337) (h_kx hE39 (h_kx hE35 (h_kx hE23 hc13_0 (by decide)) (by decide)) (by decide)) rfl rfl (show _ ∧ _ ∧ _ ∧ _ = some 1 from by decide +kernel) (by decide) (by decide) rfl (Nat.le_of_ble_eq_true rfl) hk9 aw_nox) ?_
      obtain ⟨rfl, rfl⟩ := ga_end h
      exact hw_ret hP47 (x_vret dJ7_addLast_50 rfl hq)
  · rw [if_neg c1] at h
    refine hw_1 (fun k => x_ifnonnull (tgt := 12) dJ7_addLast_1 (by decide) (fun z => absurd z c1) (fun _ => k)) ?_
    exact absurd h (by intro h; cases h)
theorem h_J7_add_ok {G : aw_G} {D D' : ga_D} {r : Int} {x0 x1 : Int} (hP : h_P D) (h : h_J7_add x0 x1 D = some (r, D')) : aw_HR yJ7_add cJ7_add 2 (some (.boolean)) 11 G [(2, x0), (2, x1)] D (some (0, r)) D' := by
  unfold h_J7_add at h
  refine hw_body (own := "java/util/ArrayDeque") (ini := false) (ls := [(0, (2, x0)), (1, (2, x1))]) rfl rfl (fun h => by cases h) (Nat.le_of_ble_eq_true rfl) rfl fun Q hq => ?_
  refine hw_1 (fun k => x_aload_n dJ7_add_0 rfl k) ?_
  refine hw_1 (fun k => x_aload_n dJ7_add_1 rfl k) ?_
  replace h := ga_ck_some h; obtain ⟨hc2_0, h⟩ := h
  replace h := ga_bind_some h; obtain ⟨r2, D2, g2, h⟩ := h
  have hR2 := (h_J7_addLast_ok (G := G) hP g2)
  obtain ⟨hP2, hE2, -⟩ := id hR2
  refine hw_call (rest := []) hR2 (fun hc hk9 => x_callV (as := [(2, x1)]) (rest := []) dJ7_add_2 hc (lw_V q4712 q4330 q4331 q435 q4332) hc2_0 rfl rfl (show _ ∧ _ ∧ _ ∧ _ = some 1 from by decide +kernel) (by decide) (by decide) rfl (Nat.le_of_ble_eq_true rfl) hk9 aw_nox) ?_
  refine hw_1 (fun k => x_iconst dJ7_add_5 (by decide) k) ?_
  obtain ⟨rfl, rfl⟩ := ga_end h
  exact hw_ret hP2 (x_iret dJ7_add_6 rfl rfl (show (0 : Int) ≤ 1 ∧ (1 : Int) < 2 from by decide) hq)
theorem h_J20_isLatin1_ok {G : aw_G} {D D' : ga_D} {r : Int} {x0 : Int} (hP : h_P D) (h : h_J20_isLatin1 x0 D = some (r, D')) : aw_HR yJ20_isLatin1 cJ20_isLatin1 1 (some (.boolean)) 0 G [(2, x0)] D (some (0, r)) D' := by
  unfold h_J20_isLatin1 at h
  refine hw_body (own := "java/lang/String") (ini := false) (ls := [(0, (2, x0))]) rfl rfl (fun h => by cases h) (Nat.le_of_ble_eq_true rfl) rfl fun Q hq => ?_
  refine hw_1 (fun k => x_gets (tg := 0) (z := 1) dJ20_isLatin1_0 q2869 (by decide +kernel) k) ?_
  refine hw_1 (fun k => x_if_eq (tgt := 17) dJ20_isLatin1_3 (by decide) (fun z => absurd z (show ¬ ((1 : Int) = 0) from (by decide))) (fun _ => k)) ?_
  refine hw_1 (fun k => x_aload_n dJ20_isLatin1_6 rfl k) ?_
  replace h := ga_ck_some h; obtain ⟨hc7_0, h⟩ := h
  refine hw_1 (fun k => x_getf (v := D x0 1) dJ20_isLatin1_7 fl_J20_15 hc7_0 rfl k) ?_
  by_cases c10 : D x0 1 ≠ 0
  · rw [if_pos c10] at h
    refine hw_1 (fun k => x_if_ne (tgt := 17) dJ20_isLatin1_10 (by decide) (fun _ => k) (fun z => absurd c10 z)) ?_
    refine hw_1 (fun k => x_iconst dJ20_isLatin1_17 (by decide) k) ?_
    obtain ⟨rfl, rfl⟩ := ga_end h
    exact hw_ret hP (x_iret dJ20_isLatin1_18 rfl rfl (show (0 : Int) ≤ 0 ∧ (0 : Int) < 2 from by decide) hq)
  · rw [if_neg c10] at h
    refine hw_1 (fun k => x_if_ne (tgt := 17) dJ20_isLatin1_10 (by decide) (fun z => absurd z c10) (fun _ => k)) ?_
    refine hw_1 (fun k => x_iconst dJ20_isLatin1_13 (by decide) k) ?_
    refine hw_1 (fun k => x_goto (tgt := 18) dJ20_isLatin1_14 (by decide) k) ?_
    obtain ⟨rfl, rfl⟩ := ga_end h
    exact hw_ret hP (x_iret dJ20_isLatin1_18 rfl rfl (show (0 : Int) ≤ 1 ∧ (1 : Int) < 2 from by decide) hq)
theorem h_J18_init_ok {G : aw_G} {D D' : ga_D} {r : Int} {x0 x1 : Int} (hx0 : 0 < x0) (hP : h_P D) (h : h_J18_init x0 x1 D = some (r, D')) : aw_HR yJ18_init cJ18_init 2 none 1 G [(2, x0), (0, x1)] D none D' := by
  unfold h_J18_init at h
  refine hw_body (own := "java/lang/AbstractStringBuilder") (ini := true) (ls := [(0, (2, x0)), (1, (0, x1))]) rfl rfl (fun _ => rfl) (Nat.le_of_ble_eq_true rfl) rfl fun Q hq => ?_
  refine hw_1 (fun k => x_aload_n dJ18_init_0 rfl k) ?_
  refine hw_1 (fun k => x_objInit0 dJ18_init_1 q2631 q512 q513 hx0 (by decide) (Nat.le_of_ble_eq_true rfl) k) ?_
  refine hw_1 (fun k => x_gets (tg := 0) (z := 1) dJ18_init_4 q2632 (by decide +kernel) k) ?_
  refine hw_1 (fun k => x_if_eq (tgt := 25) dJ18_init_7 (by decide) (fun z => absurd z (show ¬ ((1 : Int) = 0) from (by decide))) (fun _ => k)) ?_
  refine hw_1 (fun k => x_aload_n dJ18_init_10 rfl k) ?_
  refine hw_1 (fun k => x_iload_n dJ18_init_11 rfl k) ?_
  replace h := ga_ck_some h; obtain ⟨hc12_0, h⟩ := h
  replace h := ga_let_some h; obtain ⟨z12, ez12, h⟩ := h
  replace h := ga_let_some h; obtain ⟨D12, eD12, h⟩ := h
  refine hy_newa (t := 2) hP ez12 eD12 rfl rfl dJ18_init_12 rfl (by decide) q578 hc12_0.1 hc12_0.2 (fun hP12 hE12 hz12 hg12 => ?_)
  replace h := ga_ck_some h; obtain ⟨hc14_1, h⟩ := h
  replace h := ga_let_some h; obtain ⟨D14, eD14, h⟩ := h
  refine hw_set eD14 (Int.le_trans (by decide) (hkge_68 hc14_1)) (by decide) (fun k => x_putf dJ18_init_14 fl_J18_15 rfl hc14_1 (hkge_68 hc14_1) trivial k) ?_
  have hP14 : h_P D14 := hP12.set eD14 (hkge_68 hc14_1) (by decide) (hPn hc14_1 rfl)
  have hE14 : h_E D12 D14 := h_E_set eD14 (by decide)
  refine hw_1 (fun k => x_aload_n dJ18_init_17 rfl k) ?_
  refine hw_1 (fun k => x_iconst dJ18_init_18 (by decide) k) ?_
  replace h := ga_let_some h; obtain ⟨D19, eD19, h⟩ := h
  refine hw_set eD19 (Int.le_trans (by decide) (hkge_68 (h_kx hE14 hc14_1 (by decide)))) (by decide) (fun k => x_putf dJ18_init_19 fl_J18_22 rfl (h_kx hE14 hc14_1 (by decide)) (hkge_68 (h_kx hE14 hc14_1 (by decide))) (show ((-128) : Int) ≤ 0 ∧ (0 : Int) < 128 from by decide) k) ?_
  have hP19 : h_P D19 := hP14.set eD19 (hkge_68 (h_kx hE14 hc14_1 (by decide))) (by decide) (hPn (h_kx hE14 hc14_1 (by decide)) rfl)
  have hE19 : h_E D14 D19 := h_E_set eD19 (by decide)
  refine hw_1 (fun k => x_goto (tgt := 38) dJ18_init_22 (by decide) k) ?_
  obtain ⟨rfl, rfl⟩ := ga_end h
  exact hw_ret hP19 (x_vret dJ18_init_38 rfl hq)
theorem h_J19_init_ok {G : aw_G} {D D' : ga_D} {r : Int} {x0 : Int} (hx0 : 0 < x0) (hP : h_P D) (h : h_J19_init x0 D = some (r, D')) : aw_HR yJ19_init cJ19_init 1 none 2 G [(2, x0)] D none D' := by
  unfold h_J19_init at h
  refine hw_body (own := "java/lang/StringBuilder") (ini := true) (ls := [(0, (2, x0))]) rfl rfl (fun _ => rfl) (Nat.le_of_ble_eq_true rfl) rfl fun Q hq => ?_
  refine hw_1 (fun k => x_aload_n dJ19_init_0 rfl k) ?_
  refine hw_1 (fun k => x_bipush dJ19_init_1 (by decide) k) ?_
  replace h := ga_bind_some h; obtain ⟨r3, D3, g3, h⟩ := h
  have hR3 := (h_J18_init_ok (G := G) hx0 hP g3)
  obtain ⟨hP3, hE3, -⟩ := id hR3
  refine hw_call (rest := []) hR3 (fun hc hk9 => x_callI0 (as := [(0, 16)]) (rest := []) dJ19_init_3 hc (lw_meth q2630) q469 q2628 q2629 hx0 rfl (show _ ∧ _ ∧ _ = some 1 from by decide +kernel) (by decide) (by decide) rfl (Nat.le_of_ble_eq_true rfl) hk9 aw_nox) ?_
  obtain ⟨rfl, rfl⟩ := ga_end h
  exact hw_ret hP3 (x_vret dJ19_init_6 rfl hq)
theorem h_J18_newCapacity_ok {G : aw_G} {D D' : ga_D} {r : Int} {x0 x1 : Int} (hP : h_P D) (h : h_J18_newCapacity x0 x1 D = some (r, D')) : aw_HR yJ18_newCapacity cJ18_newCapacity 6 (some (.int)) 3 G [(2, x0), (0, x1)] D (some (0, r)) D' := by
  unfold h_J18_newCapacity at h
  refine hw_body (own := "java/lang/AbstractStringBuilder") (ini := false) (ls := [(0, (2, x0)), (1, (0, x1))]) rfl rfl (fun h => by cases h) (Nat.le_of_ble_eq_true rfl) rfl fun Q hq => ?_
  refine hw_1 (fun k => x_aload_n dJ18_newCapacity_0 rfl k) ?_
  replace h := ga_ck_some h; obtain ⟨hc1_0, h⟩ := h
  refine hw_1 (fun k => x_getf (v := D x0 0) dJ18_newCapacity_1 fl_J18_15 hc1_0 rfl k) ?_
  replace h := ga_ck_some h; obtain ⟨hc4_1, h⟩ := h
  refine hw_1 (fun k => x_alen (t := 2) dJ18_newCapacity_4 (hk_p hc4_1) rfl k) ?_
  replace h := ga_let_some h; obtain ⟨v5, ev5, h⟩ := h
  refine hw_nm ev5 ?_
  refine hw_1 (fun k => x_istore_n (ls' := [(2, (0, v5)), (0, (2, x0)), (1, (0, x1))]) dJ18_newCapacity_5 (by decide) rfl k) ?_
  refine hw_1 (fun k => x_iload_n dJ18_newCapacity_6 rfl k) ?_
  refine hw_1 (fun k => x_aload_n dJ18_newCapacity_7 rfl k) ?_
  refine hw_1 (fun k => x_getf (v := D x0 1) dJ18_newCapacity_8 fl_J18_22 hc1_0 rfl k) ?_
  refine hw_1 (fun k => x_ishl dJ18_newCapacity_11 rfl k) ?_
  replace h := ga_let_some h; obtain ⟨v12, ev12, h⟩ := h
  refine hw_nm ev12 ?_
  refine hw_1 (fun k => x_istore_n (ls' := [(3, (0, v12)), (2, (0, v5)), (0, (2, x0)), (1, (0, x1))]) dJ18_newCapacity_12 (by decide) rfl k) ?_
  refine hw_1 (fun k => x_iload_n dJ18_newCapacity_13 rfl k) ?_
  refine hw_1 (fun k => x_iload_n dJ18_newCapacity_14 rfl k) ?_
  refine hw_1 (fun k => x_isub dJ18_newCapacity_15 rfl k) ?_
  replace h := ga_let_some h; obtain ⟨v16, ev16, h⟩ := h
  refine hw_nm ev16 ?_
  refine hw_1 (fun k => x_istore (ls' := [(4, (0, v16)), (3, (0, v12)), (2, (0, v5)), (0, (2, x0)), (1, (0, x1))]) dJ18_newCapacity_16 (by decide) rfl k) ?_
  refine hw_1 (fun k => x_iload_n dJ18_newCapacity_18 rfl k) ?_
  refine hw_1 (fun k => x_iload dJ18_newCapacity_19 rfl k) ?_
  refine hw_1 (fun k => x_iload_n dJ18_newCapacity_21 rfl k) ?_
  refine hw_1 (fun k => x_iconst dJ18_newCapacity_22 (by decide) k) ?_
  refine hw_1 (fun k => x_aload_n dJ18_newCapacity_23 rfl k) ?_
  refine hw_1 (fun k => x_getf (v := D x0 1) dJ18_newCapacity_24 fl_J18_22 hc1_0 rfl k) ?_
  refine hw_1 (fun k => x_ishl dJ18_newCapacity_27 rfl k) ?_
  refine hw_1 (fun k => x_iadd dJ18_newCapacity_28 rfl k) ?_
  replace h := ga_bind_some h; obtain ⟨r29, D29, g29, h⟩ := h
  have hR29 := (h_J11_newLength_ok (G := G) hP g29)
  obtain ⟨hP29, hE29, -⟩ := id hR29
  refine hw_call (rest := []) hR29 (fun hc hk9 => x_callS (as := [(0, v5), (0, v16), (0, aw_w32 (v5 + (aw_shl 2 (D x0 1))))]) (rest := []) dJ18_newCapacity_29 hc (lw_S q2669 q1957 q442 q1958) (show _ ∧ _ ∧ _ = some 3 from by decide +kernel) (by decide) (by decide) rfl (Nat.le_of_ble_eq_true rfl) hk9 aw_nox) ?_
  refine hw_1 (fun k => x_istore (ls' := [(5, (0, r29)), (4, (0, v16)), (3, (0, v12)), (2, (0, v5)), (0, (2, x0)), (1, (0, x1))]) dJ18_newCapacity_32 (by decide) rfl k) ?_
  refine hw_1 (fun k => x_iload dJ18_newCapacity_34 rfl k) ?_
  refine hw_1 (fun k => x_ldc (z := 2147483647) dJ18_newCapacity_36 q2670 (by decide) k) ?_
  by_cases c38 : r29 ≠ 2147483647
  · rw [if_pos c38] at h
    refine hw_1 (fun k => x_icmp_ne (tgt := 51) dJ18_newCapacity_38 (by decide) (fun _ => k) (fun z => absurd c38 z)) ?_
    refine hw_1 (fun k => x_iload dJ18_newCapacity_51 rfl k) ?_
    refine hw_1 (fun k => x_aload_n dJ18_newCapacity_53 rfl k) ?_
    refine hw_1 (fun k => x_getf (v := D29 x0 1) dJ18_newCapacity_54 fl_J18_22 (h_kx hE29 hc1_0 (by decide)) rfl k) ?_
    refine hw_1 (fun k => x_ishr dJ18_newCapacity_57 rfl k) ?_
    obtain ⟨rfl, rfl⟩ := ga_end h
    exact hw_ret hP29 (x_iret dJ18_newCapacity_58 rfl rfl trivial hq)
  · rw [if_neg c38] at h
    refine hw_1 (fun k => x_icmp_ne (tgt := 51) dJ18_newCapacity_38 (by decide) (fun z => absurd z c38) (fun _ => k)) ?_
    exact absurd h (by intro h; cases h)
theorem h_J12_copyOf_3_ok {G : aw_G} {D D' : ga_D} {r : Int} {x0 x1 : Int} (hP : h_P D) (h : h_J12_copyOf_3 x0 x1 D = some (r, D')) : aw_HR yJ12_copyOf_3 cJ12_copyOf_3 3 (some (.array .byte)) 2 G [(2, x0), (0, x1)] D (some (2, r)) D' := by
  unfold h_J12_copyOf_3 at h
  refine hw_body (own := "java/util/Arrays") (ini := false) (ls := [(0, (2, x0)), (1, (0, x1))]) rfl rfl (fun h => by cases h) (Nat.le_of_ble_eq_true rfl) rfl fun Q hq => ?_
  refine hw_1 (fun k => x_iload_n dJ12_copyOf_3_0 rfl k) ?_
  refine hw_1 (fun k => x_aload_n dJ12_copyOf_3_1 rfl k) ?_
  replace h := ga_ck_some h; obtain ⟨hc2_0, h⟩ := h
  refine hw_1 (fun k => x_alen (t := 2) dJ12_copyOf_3_2 (hk_p hc2_0) rfl k) ?_
  by_cases c3 : x1 ≠ (hk D x0).2
  · rw [if_pos c3] at h
    refine hw_1 (fun k => x_icmp_ne (tgt := 14) dJ12_copyOf_3_3 (by decide) (fun _ => k) (fun z => absurd c3 z)) ?_
    refine hw_1 (fun k => x_iload_n dJ12_copyOf_3_14 rfl k) ?_
    replace h := ga_ck_some h; obtain ⟨hc15_0, h⟩ := h
    replace h := ga_let_some h; obtain ⟨z15, ez15, h⟩ := h
    replace h := ga_let_some h; obtain ⟨D15, eD15, h⟩ := h
    refine hy_newa (t := 2) hP ez15 eD15 rfl rfl dJ12_copyOf_3_15 rfl (by decide) q578 hc15_0.1 hc15_0.2 (fun hP15 hE15 hz15 hg15 => ?_)
    refine hw_1 (fun k => x_astore_n (ls' := [(2, (2, z15)), (0, (2, x0)), (1, (0, x1))]) dJ12_copyOf_3_17 (by decide) rfl k) ?_
    refine hw_1 (fun k => x_aload_n dJ12_copyOf_3_18 rfl k) ?_
    refine hw_1 (fun k => x_iconst dJ12_copyOf_3_19 (by decide) k) ?_
    refine hw_1 (fun k => x_aload_n dJ12_copyOf_3_20 rfl k) ?_
    refine hw_1 (fun k => x_iconst dJ12_copyOf_3_21 (by decide) k) ?_
    refine hw_1 (fun k => x_aload_n dJ12_copyOf_3_22 rfl k) ?_
    refine hw_1 (fun k => x_alen (t := 2) dJ12_copyOf_3_23 (h_kx hE15 (hk_p hc2_0) (by decide)) rfl k) ?_
    refine hw_1 (fun k => x_iload_n dJ12_copyOf_3_24 rfl k) ?_
    refine hw_1 (fun k => x_mmin dJ12_copyOf_3_25 q2065 q2066 q409 q2067 (by decide) (Nat.le_of_ble_eq_true rfl) rfl k) ?_
    replace h := ga_ck_some h; obtain ⟨hc28_1, h⟩ := h
    replace h := ga_let_some h; obtain ⟨D28, eD28, h⟩ := h
    refine hw_cp eD28 (Int.le_trans (by decide) hg15) hc28_1.2.1 (fun k => x_copy (t := 2) rfl dJ12_copyOf_3_28 q2068 q2070 q2069 q444 (h_kx hE15 (hk_p hc2_0) (by decide)) hz15 rfl rfl (Int.le_trans (by decide) hg15) hc28_1 (by decide) (Nat.le_of_ble_eq_true rfl) k) ?_
    have hP28 : h_P D28 := hP15.cp eD28 (Int.le_trans (by decide) hg15) hc28_1.2.1 (fun _ => hPn hz15 rfl)
    have hE28 : h_E D15 D28 := h_E_cp eD28 hc28_1.2.1
    refine hw_1 (fun k => x_aload_n dJ12_copyOf_3_31 rfl k) ?_
    obtain ⟨rfl, rfl⟩ := ga_end h
    exact hw_ret hP28 (x_aret dJ12_copyOf_3_32 rfl (by first | exact Or.inl ⟨_, rfl⟩ | exact Or.inr ⟨_, rfl⟩) hq)
  · rw [if_neg c3] at h
    refine hw_1 (fun k => x_icmp_ne (tgt := 14) dJ12_copyOf_3_3 (by decide) (fun z => absurd z c3) (fun _ => k)) ?_
    refine hw_1 (fun k => x_aload_n dJ12_copyOf_3_6 rfl k) ?_
    replace h := ga_ck_some h; obtain ⟨hc7_0, h⟩ := h
    replace h := ga_let_some h; obtain ⟨z7, ez7, h⟩ := h
    replace h := ga_let_some h; obtain ⟨D7a, eD7a, h⟩ := h
    replace h := ga_let_some h; obtain ⟨D7, eD7, h⟩ := h
    refine hy_clone hP ez7 eD7a eD7 rfl rfl dJ12_copyOf_3_7 q2674 q2675 q936 q937 q2676 q2677 (hk_p hc2_0) hc7_0.1 hc7_0.2 (by decide) (Nat.le_of_ble_eq_true rfl) (fun hP7 hE7 hz7 hg7 => ?_)
    refine hw_1 (fun k => x_castA (t := 2) dJ12_copyOf_3_10 q2678 rfl rfl (Or.inr hz7) k) ?_
    obtain ⟨rfl, rfl⟩ := ga_end h
    exact hw_ret hP7 (x_aret dJ12_copyOf_3_13 rfl (by first | exact Or.inl ⟨_, rfl⟩ | exact Or.inr ⟨_, rfl⟩) hq)
theorem h_J18_ensureCapacityInternal_ok {G : aw_G} {D D' : ga_D} {r : Int} {x0 x1 : Int} (hP : h_P D) (h : h_J18_ensureCapacityInternal x0 x1 D = some (r, D')) : aw_HR yJ18_ensureCapacityInternal cJ18_ensureCapacityInternal 3 none 4 G [(2, x0), (0, x1)] D none D' := by
  unfold h_J18_ensureCapacityInternal at h
  refine hw_body (own := "java/lang/AbstractStringBuilder") (ini := false) (ls := [(0, (2, x0)), (1, (0, x1))]) rfl rfl (fun h => by cases h) (Nat.le_of_ble_eq_true rfl) rfl fun Q hq => ?_
  refine hw_1 (fun k => x_aload_n dJ18_ensureCapacityInternal_0 rfl k) ?_
  replace h := ga_ck_some h; obtain ⟨hc1_0, h⟩ := h
  refine hw_1 (fun k => x_getf (v := D x0 0) dJ18_ensureCapacityInternal_1 fl_J18_15 hc1_0 rfl k) ?_
  replace h := ga_ck_some h; obtain ⟨hc4_1, h⟩ := h
  refine hw_1 (fun k => x_alen (t := 2) dJ18_ensureCapacityInternal_4 (hk_p hc4_1) rfl k) ?_
  refine hw_1 (fun k => x_aload_n dJ18_ensureCapacityInternal_5 rfl k) ?_
  refine hw_1 (fun k => x_getf (v := D x0 1) dJ18_ensureCapacityInternal_6 fl_J18_22 hc1_0 rfl k) ?_
  refine hw_1 (fun k => x_ishr dJ18_ensureCapacityInternal_9 rfl k) ?_
  replace h := ga_let_some h; obtain ⟨v10, ev10, h⟩ := h
  refine hw_nm ev10 ?_
  refine hw_1 (fun k => x_istore_n (ls' := [(2, (0, v10)), (0, (2, x0)), (1, (0, x1))]) dJ18_ensureCapacityInternal_10 (by decide) rfl k) ?_
  refine hw_1 (fun k => x_iload_n dJ18_ensureCapacityInternal_11 rfl k) ?_
  refine hw_1 (fun k => x_iload_n dJ18_ensureCapacityInternal_12 rfl k) ?_
  refine hw_1 (fun k => x_isub dJ18_ensureCapacityInternal_13 rfl k) ?_
  by_cases c14 : aw_w32 (x1 - v10) ≤ 0
  · rw [if_pos c14] at h
    refine hw_1 (fun k => x_if_le (tgt := 38) dJ18_ensureCapacityInternal_14 (by decide) (fun _ => k) (fun z => absurd c14 z)) ?_
    obtain ⟨rfl, rfl⟩ := ga_end h
    exact hw_ret hP (x_vret dJ18_ensureCapacityInternal_38 rfl hq)
  · rw [if_neg c14] at h
    refine hw_1 (fun k => x_if_le (tgt := 38) dJ18_ensureCapacityInternal_14 (by decide) (fun z => absurd z c14) (fun _ => k)) ?_
    refine hw_1 (fun k => x_aload_n dJ18_ensureCapacityInternal_17 rfl k) ?_
    refine hw_1 (fun k => x_aload_n dJ18_ensureCapacityInternal_18 rfl k) ?_
    refine hw_1 (fun k => x_getf (v := D x0 0) dJ18_ensureCapacityInternal_19 fl_J18_15 hc1_0 rfl k) ?_
    refine hw_1 (fun k => x_aload_n dJ18_ensureCapacityInternal_22 rfl k) ?_
    refine hw_1 (fun k => x_iload_n dJ18_ensureCapacityInternal_23 rfl k) ?_
    replace h := ga_bind_some h; obtain ⟨r24, D24, g24, h⟩ := h
    have hR24 := (h_J18_newCapacity_ok (G := G) hP g24)
    obtain ⟨hP24, hE24, -⟩ := id hR24
    refine hw_call (rest := [(2, D x0 0), (2, x0)]) hR24 (fun hc hk9 => x_callP (C := "java/lang/StringBuilder") (cN2 := 0) (as := [(0, x1)]) (rest := [(2, D x0 0), (2, x0)]) dJ18_ensureCapacityInternal_24 hc q2668 q2665 q9592 q2666 q2624 q2682 rfl q2667 q469 hc1_0 rfl rfl (show _ ∧ _ ∧ _ = some 1 from by decide +kernel) (by decide) (by decide) rfl (Nat.le_of_ble_eq_true rfl) hk9 aw_nox) ?_
    refine hw_1 (fun k => x_aload_n dJ18_ensureCapacityInternal_27 rfl k) ?_
    refine hw_1 (fun k => x_getf (v := D24 x0 1) dJ18_ensureCapacityInternal_28 fl_J18_22 (h_kx hE24 hc1_0 (by decide)) rfl k) ?_
    refine hw_1 (fun k => x_ishl dJ18_ensureCapacityInternal_31 rfl k) ?_
    replace h := ga_bind_some h; obtain ⟨r32, D32, g32, h⟩ := h
    have hR32 := (h_J12_copyOf_3_ok (G := G) hP24 g32)
    obtain ⟨hP32, hE32, -⟩ := id hR32
    refine hw_call (rest := [(2, x0)]) hR32 (fun hc hk9 => x_callS (as := [(2, D x0 0), (0, aw_shl r24 (D24 x0 1))]) (rest := [(2, x0)]) dJ18_ensureCapacityInternal_32 hc (lw_S q2671 q2672 q443 q2673) (show _ ∧ _ ∧ _ = some 2 from by decide +kernel) (by decide) (by decide) rfl (Nat.le_of_ble_eq_true rfl) hk9 aw_nox) ?_
    replace h := ga_let_some h; obtain ⟨D35, eD35, h⟩ := h
    refine hw_set eD35 (Int.le_trans (by decide) (hkge_68 (h_kx hE32 (h_kx hE24 hc1_0 (by decide)) (by decide)))) (by decide) (fun k => x_putf dJ18_ensureCapacityInternal_35 fl_J18_15 rfl (h_kx hE32 (h_kx hE24 hc1_0 (by decide)) (by decide)) (hkge_68 (h_kx hE32 (h_kx hE24 hc1_0 (by decide)) (by decide))) trivial k) ?_
    have hP35 : h_P D35 := hP32.set eD35 (hkge_68 (h_kx hE32 (h_kx hE24 hc1_0 (by decide)) (by decide))) (by decide) (hPn (h_kx hE32 (h_kx hE24 hc1_0 (by decide)) (by decide)) rfl)
    have hE35 : h_E D32 D35 := h_E_set eD35 (by decide)
    obtain ⟨rfl, rfl⟩ := ga_end h
    exact hw_ret hP35 (x_vret dJ18_ensureCapacityInternal_38 rfl hq)
theorem h_J20_coder_ok {G : aw_G} {D D' : ga_D} {r : Int} {x0 : Int} (hP : h_P D) (h : h_J20_coder x0 D = some (r, D')) : aw_HR yJ20_coder cJ20_coder 1 (some (.byte)) 0 G [(2, x0)] D (some (0, r)) D' := by
  unfold h_J20_coder at h
  refine hw_body (own := "java/lang/String") (ini := false) (ls := [(0, (2, x0))]) rfl rfl (fun h => by cases h) (Nat.le_of_ble_eq_true rfl) rfl fun Q hq => ?_
  refine hw_1 (fun k => x_gets (tg := 0) (z := 1) dJ20_coder_0 q2869 (by decide +kernel) k) ?_
  refine hw_1 (fun k => x_if_eq (tgt := 13) dJ20_coder_3 (by decide) (fun z => absurd z (show ¬ ((1 : Int) = 0) from (by decide))) (fun _ => k)) ?_
  refine hw_1 (fun k => x_aload_n dJ20_coder_6 rfl k) ?_
  replace h := ga_ck_some h; obtain ⟨hc7_0, h⟩ := h
  refine hw_1 (fun k => x_getf (v := D x0 1) dJ20_coder_7 fl_J20_15 hc7_0 rfl k) ?_
  refine hw_1 (fun k => x_goto (tgt := 14) dJ20_coder_10 (by decide) k) ?_
  replace h := ga_ck_some h; obtain ⟨hc14_0, h⟩ := h
  obtain ⟨rfl, rfl⟩ := ga_end h
  exact hw_ret hP (x_iret dJ20_coder_14 rfl rfl hc14_0 hq)
theorem h_J20_length_ok {G : aw_G} {D D' : ga_D} {r : Int} {x0 : Int} (hP : h_P D) (h : h_J20_length x0 D = some (r, D')) : aw_HR yJ20_length cJ20_length 1 (some (.int)) 1 G [(2, x0)] D (some (0, r)) D' := by
  unfold h_J20_length at h
  refine hw_body (own := "java/lang/String") (ini := false) (ls := [(0, (2, x0))]) rfl rfl (fun h => by cases h) (Nat.le_of_ble_eq_true rfl) rfl fun Q hq => ?_
  refine hw_1 (fun k => x_aload_n dJ20_length_0 rfl k) ?_
  replace h := ga_ck_some h; obtain ⟨hc1_0, h⟩ := h
  refine hw_1 (fun k => x_getf (v := D x0 0) dJ20_length_1 fl_J20_9 hc1_0 rfl k) ?_
  replace h := ga_ck_some h; obtain ⟨hc4_1, h⟩ := h
  refine hw_1 (fun k => x_alen (t := 2) dJ20_length_4 (hk_p hc4_1) rfl k) ?_
  refine hw_1 (fun k => x_aload_n dJ20_length_5 rfl k) ?_
  replace h := ga_bind_some h; obtain ⟨r6, D6, g6, h⟩ := h
  have hR6 := (h_J20_coder_ok (G := G) hP g6)
  obtain ⟨hP6, hE6, -⟩ := id hR6
  refine hw_call (rest := [(0, (hk D (D x0 0)).2)]) hR6 (fun hc hk9 => x_callV (as := []) (rest := [(0, (hk D (D x0 0)).2)]) dJ20_length_6 hc (lw_V q2865 q2866 q2867 q471 q2868) hc1_0 rfl rfl (show _ ∧ _ ∧ _ ∧ _ = some 0 from by decide +kernel) (by decide) (by decide) rfl (Nat.le_of_ble_eq_true rfl) hk9 aw_nox) ?_
  refine hw_1 (fun k => x_ishr dJ20_length_9 rfl k) ?_
  obtain ⟨rfl, rfl⟩ := ga_end h
  exact hw_ret hP6 (x_iret dJ20_length_10 rfl rfl trivial hq)
theorem h_J18_inflateIfNeededFor_ok {G : aw_G} {D D' : ga_D} {r : Int} {x0 x1 : Int} (hP : h_P D) (h : h_J18_inflateIfNeededFor x0 x1 D = some (r, D')) : aw_HR yJ18_inflateIfNeededFor cJ18_inflateIfNeededFor 2 none 1 G [(2, x0), (2, x1)] D none D' := by
  unfold h_J18_inflateIfNeededFor at h
  refine hw_body (own := "java/lang/AbstractStringBuilder") (ini := false) (ls := [(0, (2, x0)), (1, (2, x1))]) rfl rfl (fun h => by cases h) (Nat.le_of_ble_eq_true rfl) rfl fun Q hq => ?_
  refine hw_1 (fun k => x_gets (tg := 0) (z := 1) dJ18_inflateIfNeededFor_0 q2632 (by decide +kernel) k) ?_
  refine hw_1 (fun k => x_if_eq (tgt := 21) dJ18_inflateIfNeededFor_3 (by decide) (fun z => absurd z (show ¬ ((1 : Int) = 0) from (by decide))) (fun _ => k)) ?_
  refine hw_1 (fun k => x_aload_n dJ18_inflateIfNeededFor_6 rfl k) ?_
  replace h := ga_ck_some h; obtain ⟨hc7_0, h⟩ := h
  refine hw_1 (fun k => x_getf (v := D x0 1) dJ18_inflateIfNeededFor_7 fl_J18_22 hc7_0 rfl k) ?_
  refine hw_1 (fun k => x_aload_n dJ18_inflateIfNeededFor_10 rfl k) ?_
  replace h := ga_ck_some h; obtain ⟨hc11_1, h⟩ := h
  replace h := ga_bind_some h; obtain ⟨r11, D11, g11, h⟩ := h
  have hR11 := (h_J20_coder_ok (G := G) hP g11)
  obtain ⟨hP11, hE11, -⟩ := id hR11
  refine hw_call (rest := [(0, D x0 1)]) hR11 (fun hc hk9 => x_callV (as := []) (rest := [(0, D x0 1)]) dJ18_inflateIfNeededFor_11 hc (lw_V q2878 q2866 q2867 q471 q2868) hc11_1 rfl rfl (show _ ∧ _ ∧ _ ∧ _ = some 0 from by decide +kernel) (by decide) (by decide) rfl (Nat.le_of_ble_eq_true rfl) hk9 aw_nox) ?_
  by_cases c14 : D x0 1 = r11
  · rw [if_pos c14] at h
    refine hw_1 (fun k => x_icmp_eq (tgt := 21) dJ18_inflateIfNeededFor_14 (by decide) (fun _ => k) (fun z => absurd c14 z)) ?_
    obtain ⟨rfl, rfl⟩ := ga_end h
    exact hw_ret hP11 (x_vret dJ18_inflateIfNeededFor_21 rfl hq)
  · rw [if_neg c14] at h
    refine hw_1 (fun k => x_icmp_eq (tgt := 21) dJ18_inflateIfNeededFor_14 (by decide) (fun z => absurd z c14) (fun _ => k)) ?_
    refine hw_1 (fun k => x_aload_n dJ18_inflateIfNeededFor_17 rfl k) ?_
    exact absurd h (by intro h; cases h)
theorem h_J20_getBytes_ok {G : aw_G} {D D' : ga_D} {r : Int} {x0 x1 x2 x3 : Int} (hP : h_P D) (h : h_J20_getBytes x0 x1 x2 x3 D = some (r, D')) : aw_HR yJ20_getBytes cJ20_getBytes 4 none 2 G [(2, x0), (2, x1), (0, x2), (0, x3)] D none D' := by
  unfold h_J20_getBytes at h
  refine hw_body (own := "java/lang/String") (ini := false) (ls := [(0, (2, x0)), (1, (2, x1)), (2, (0, x2)), (3, (0, x3))]) rfl rfl (fun h => by cases h) (Nat.le_of_ble_eq_true rfl) rfl fun Q hq => ?_
  refine hw_1 (fun k => x_aload_n dJ20_getBytes_0 rfl k) ?_
  replace h := ga_ck_some h; obtain ⟨hc1_0, h⟩ := h
  replace h := ga_bind_some h; obtain ⟨r1, D1, g1, h⟩ := h
  have hR1 := (h_J20_coder_ok (G := G) hP g1)
  obtain ⟨hP1, hE1, -⟩ := id hR1
  refine hw_call (rest := []) hR1 (fun hc hk9 => x_callV (as := []) (rest := []) dJ20_getBytes_1 hc (lw_V q2865 q2866 q2867 q471 q2868) hc1_0 rfl rfl (show _ ∧ _ ∧ _ ∧ _ = some 0 from by decide +kernel) (by decide) (by decide) rfl (Nat.le_of_ble_eq_true rfl) hk9 aw_nox) ?_
  refine hw_1 (fun k => x_iload_n dJ20_getBytes_4 rfl k) ?_
  by_cases c5 : r1 ≠ x3
  · rw [if_pos c5] at h
    refine hw_1 (fun k => x_icmp_ne (tgt := 28) dJ20_getBytes_5 (by decide) (fun _ => k) (fun z => absurd c5 z)) ?_
    refine hw_1 (fun k => x_aload_n dJ20_getBytes_28 rfl k) ?_
    refine hw_1 (fun k => x_getf (v := D1 x0 0) dJ20_getBytes_29 fl_J20_9 (h_kx hE1 hc1_0 (by decide)) rfl k) ?_
    refine hw_1 (fun k => x_iconst dJ20_getBytes_32 (by decide) k) ?_
    refine hw_1 (fun k => x_aload_n dJ20_getBytes_33 rfl k) ?_
    refine hw_1 (fun k => x_iload_n dJ20_getBytes_34 rfl k) ?_
    refine hw_1 (fun k => x_aload_n dJ20_getBytes_35 rfl k) ?_
    refine hw_1 (fun k => x_getf (v := D1 x0 0) dJ20_getBytes_36 fl_J20_9 (h_kx hE1 hc1_0 (by decide)) rfl k) ?_
    replace h := ga_ck_some h; obtain ⟨hc39_0, h⟩ := h
    refine hw_1 (fun k => x_alen (t := 2) dJ20_getBytes_39 (hk_p hc39_0) rfl k) ?_
    exact absurd h (by intro h; cases h)
  · rw [if_neg c5] at h
    refine hw_1 (fun k => x_icmp_ne (tgt := 28) dJ20_getBytes_5 (by decide) (fun z => absurd z c5) (fun _ => k)) ?_
    refine hw_1 (fun k => x_aload_n dJ20_getBytes_8 rfl k) ?_
    refine hw_1 (fun k => x_getf (v := D1 x0 0) dJ20_getBytes_9 fl_J20_9 (h_kx hE1 hc1_0 (by decide)) rfl k) ?_
    refine hw_1 (fun k => x_iconst dJ20_getBytes_12 (by decide) k) ?_
    refine hw_1 (fun k => x_aload_n dJ20_getBytes_13 rfl k) ?_
    refine hw_1 (fun k => x_iload_n dJ20_getBytes_14 rfl k) ?_
    refine hw_1 (fun k => x_iload_n dJ20_getBytes_15 rfl k) ?_
    refine hw_1 (fun k => x_ishl dJ20_getBytes_16 rfl k) ?_
    refine hw_1 (fun k => x_aload_n dJ20_getBytes_17 rfl k) ?_
    refine hw_1 (fun k => x_getf (v := D1 x0 0) dJ20_getBytes_18 fl_J20_9 (h_kx hE1 hc1_0 (by decide)) rfl k) ?_
    replace h := ga_ck_some h; obtain ⟨hc21_0, h⟩ := h
    refine hw_1 (fun k => x_alen (t := 2) dJ20_getBytes_21 (hk_p hc21_0) rfl k) ?_
    replace h := ga_ck_some h; obtain ⟨hc22_1, h⟩ := h
    replace h := ga_ck_some h; obtain ⟨hc22_2, h⟩ := h
    replace h := ga_ck_some h; obtain ⟨hc22_3, h⟩ := h
    replace h := ga_let_some h; obtain ⟨D22, eD22, h⟩ := h
    refine hw_cp eD22 (Int.le_trans (by decide) hc22_2) hc22_3.2.1 (fun k => x_copy (t := 2) rfl dJ20_getBytes_22 q2883 q2070 q2069 q444 (hk_p hc21_0) (hk_p hc22_1) rfl rfl hc22_2 hc22_3 (by decide) (Nat.le_of_ble_eq_true rfl) k) ?_
    have hP22 : h_P D22 := hP1.cp eD22 hc22_2 hc22_3.2.1 (fun _ => hPn (hk_p hc22_1) rfl)
    have hE22 : h_E D1 D22 := h_E_cp eD22 hc22_3.2.1
    refine hw_1 (fun k => x_goto (tgt := 43) dJ20_getBytes_25 (by decide) k) ?_
    obtain ⟨rfl, rfl⟩ := ga_end h
    exact hw_ret hP22 (x_vret dJ20_getBytes_43 rfl hq)
theorem h_J18_putStringAt_ok {G : aw_G} {D D' : ga_D} {r : Int} {x0 x1 x2 : Int} (hP : h_P D) (h : h_J18_putStringAt x0 x1 x2 D = some (r, D')) : aw_HR yJ18_putStringAt cJ18_putStringAt 3 none 3 G [(2, x0), (0, x1), (2, x2)] D none D' := by
  unfold h_J18_putStringAt at h
  refine hw_body (own := "java/lang/AbstractStringBuilder") (ini := false) (ls := [(0, (2, x0)), (1, (0, x1)), (2, (2, x2))]) rfl rfl (fun h => by cases h) (Nat.le_of_ble_eq_true rfl) rfl fun Q hq => ?_
  refine hw_1 (fun k => x_aload_n dJ18_putStringAt_0 rfl k) ?_
  refine hw_1 (fun k => x_aload_n dJ18_putStringAt_1 rfl k) ?_
  replace h := ga_ck_some h; obtain ⟨hc2_0, h⟩ := h
  replace h := ga_bind_some h; obtain ⟨r2, D2, g2, h⟩ := h
  have hR2 := (h_J18_inflateIfNeededFor_ok (G := G) hP g2)
  obtain ⟨hP2, hE2, -⟩ := id hR2
  refine hw_call (rest := []) hR2 (fun hc hk9 => x_callP (C := "java/lang/StringBuilder") (cN2 := 0) (as := [(2, x2)]) (rest := []) dJ18_putStringAt_2 hc q2877 q2874 q9599 q2875 q2624 q2682 rfl q2876 q469 hc2_0 rfl rfl (show _ ∧ _ ∧ _ = some 1 from by decide +kernel) (by decide) (by decide) rfl (Nat.le_of_ble_eq_true rfl) hk9 aw_nox) ?_
  refine hw_1 (fun k => x_aload_n dJ18_putStringAt_5 rfl k) ?_
  refine hw_1 (fun k => x_aload_n dJ18_putStringAt_6 rfl k) ?_
  refine hw_1 (fun k => x_getf (v := D2 x0 0) dJ18_putStringAt_7 fl_J18_15 (h_kx hE2 hc2_0 (by decide)) rfl k) ?_
  refine hw_1 (fun k => x_iload_n dJ18_putStringAt_10 rfl k) ?_
  refine hw_1 (fun k => x_aload_n dJ18_putStringAt_11 rfl k) ?_
  refine hw_1 (fun k => x_getf (v := D2 x0 1) dJ18_putStringAt_12 fl_J18_22 (h_kx hE2 hc2_0 (by decide)) rfl k) ?_
  replace h := ga_ck_some h; obtain ⟨hc15_1, h⟩ := h
  replace h := ga_bind_some h; obtain ⟨r15, D15, g15, h⟩ := h
  have hR15 := (h_J20_getBytes_ok (G := G) hP2 g15)
  obtain ⟨hP15, hE15, -⟩ := id hR15
  refine hw_call (rest := []) hR15 (fun hc hk9 => x_callV (as := [(2, D2 x0 0), (0, x1), (0, D2 x0 1)]) (rest := []) dJ18_putStringAt_15 hc (lw_V q2879 q2880 q2881 q471 q2882) hc15_1 rfl rfl (show _ ∧ _ ∧ _ ∧ _ = some 3 from by decide +kernel) (by decide) (by decide) rfl (Nat.le_of_ble_eq_true rfl) hk9 aw_nox) ?_
  obtain ⟨rfl, rfl⟩ := ga_end h
  exact hw_ret hP15 (x_vret dJ18_putStringAt_18 rfl hq)
theorem h_J18_append_3_ok {G : aw_G} {D D' : ga_D} {r : Int} {x0 x1 : Int} (hP : h_P D) (h : h_J18_append_3 x0 x1 D = some (r, D')) : aw_HR yJ18_append_3 cJ18_append_3 3 (some (.object "java/lang/AbstractStringBuilder")) 5 G [(2, x0), (2, x1)] D (some (2, r)) D' := by
  unfold h_J18_append_3 at h
  refine hw_body (own := "java/lang/AbstractStringBuilder") (ini := false) (ls := [(0, (2, x0)), (1, (2, x1))]) rfl rfl (fun h => by cases h) (Nat.le_of_ble_eq_true rfl) rfl fun Q hq => ?_
  refine hw_1 (fun k => x_aload_n dJ18_append_3_0 rfl k) ?_
  by_cases c1 : x1 ≠ 0
  · rw [if_pos c1] at h
    refine hw_1 (fun k => x_ifnonnull (tgt := 9) dJ18_append_3_1 (by decide) (fun _ => k) (fun z => absurd c1 z)) ?_
    refine hw_1 (fun k => x_aload_n dJ18_append_3_9 rfl k) ?_
    replace h := ga_ck_some h; obtain ⟨hc10_0, h⟩ := h
    replace h := ga_bind_some h; obtain ⟨r10, D10, g10, h⟩ := h
    have hR10 := (h_J20_length_ok (G := G) hP g10)
    obtain ⟨hP10, hE10, -⟩ := id hR10
    refine hw_call (rest := []) hR10 (fun hc hk9 => x_callV (as := []) (rest := []) dJ18_append_3_10 hc (lw_V q2861 q2862 q2863 q471 q2864) hc10_0 rfl rfl (show _ ∧ _ ∧ _ ∧ _ = some 0 from by decide +kernel) (by decide) (by decide) rfl (Nat.le_of_ble_eq_true rfl) hk9 aw_nox) ?_
    refine hw_1 (fun k => x_istore_n (ls' := [(2, (0, r10)), (0, (2, x0)), (1, (2, x1))]) dJ18_append_3_13 (by decide) rfl k) ?_
    refine hw_1 (fun k => x_aload_n dJ18_append_3_14 rfl k) ?_
    refine hw_1 (fun k => x_aload_n dJ18_append_3_15 rfl k) ?_
    replace h := ga_ck_some h; obtain ⟨hc16_1, h⟩ := h
    refine hw_1 (fun k => x_getf (v := D10 x0 3) dJ18_append_3_16 fl_J18_79 hc16_1 rfl k) ?_
    refine hw_1 (fun k => x_iload_n dJ18_append_3_19 rfl k) ?_
    refine hw_1 (fun k => x_iadd dJ18_append_3_20 rfl k) ?_
    replace h := ga_bind_some h; obtain ⟨r21, D21, g21, h⟩ := h
    have hR21 := (h_J18_ensureCapacityInternal_ok (G := G) hP10 g21)
    obtain ⟨hP21, hE21, -⟩ := id hR21
    refine hw_call (rest := []) hR21 (fun hc hk9 => x_callP (C := "java/lang/StringBuilder") (cN2 := 0) (as := [(0, aw_w32 ((D10 x0 3) + r10))]) (rest := []) dJ18_append_3_21 hc q2664 q2661 q9591 q2662 q2624 q2682 rfl q2663 q469 hc16_1 rfl rfl (show _ ∧ _ ∧ _ = some 1 from by decide +kernel) (by decide) (by decide) rfl (Nat.le_of_ble_eq_true rfl) hk9 aw_nox) ?_
    refine hw_1 (fun k => x_aload_n dJ18_append_3_24 rfl k) ?_
    refine hw_1 (fun k => x_aload_n dJ18_append_3_25 rfl k) ?_
    refine hw_1 (fun k => x_getf (v := D21 x0 3) dJ18_append_3_26 fl_J18_79 (h_kx hE21 hc16_1 (by decide)) rfl k) ?_
    refine hw_1 (fun k => x_aload_n dJ18_append_3_29 rfl k) ?_
    replace h := ga_bind_some h; obtain ⟨r30, D30, g30, h⟩ := h
    have hR30 := (h_J18_putStringAt_ok (G := G) hP21 g30)
    obtain ⟨hP30, hE30, -⟩ := id hR30
    refine hw_call (rest := []) hR30 (fun hc hk9 => x_callP (C := "java/lang/StringBuilder") (cN2 := 0) (as := [(0, D21 x0 3), (2, x1)]) (rest := []) dJ18_append_3_30 hc q2873 q2870 q9598 q2871 q2624 q2682 rfl q2872 q469 (h_kx hE21 hc16_1 (by decide)) rfl rfl (show _ ∧ _ ∧ _ = some 2 from by decide +kernel) (by decide) (by decide) rfl (Nat.le_of_ble_eq_true rfl) hk9 aw_nox) ?_
    refine hw_1 (fun k => x_aload_n dJ18_append_3_33 rfl k) ?_
    refine hw_1 (fun k => x_dup dJ18_append_3_34 rfl k) ?_
    refine hw_1 (fun k => x_getf (v := D30 x0 3) dJ18_append_3_35 fl_J18_79 (h_kx hE30 (h_kx hE21 hc16_1 (by decide)) (by decide)) rfl k) ?_
    refine hw_1 (fun k => x_iload_n dJ18_append_3_38 rfl k) ?_
    refine hw_1 (fun k => x_iadd dJ18_append_3_39 rfl k) ?_
    replace h := ga_let_some h; obtain ⟨D40, eD40, h⟩ := h
    refine hw_set eD40 (Int.le_trans (by decide) (hkge_68 (h_kx hE30 (h_kx hE21 hc16_1 (by decide)) (by decide)))) (by decide) (fun k => x_putf dJ18_append_3_40 fl_J18_79 rfl (h_kx hE30 (h_kx hE21 hc16_1 (by decide)) (by decide)) (hkge_68 (h_kx hE30 (h_kx hE21 hc16_1 (by decide)) (by decide))) trivial k) ?_
    have hP40 : h_P D40 := hP30.set eD40 (hkge_68 (h_kx hE30 (h_kx hE21 hc16_1 (by decide)) (by decide))) (by decide) (hPn (h_kx hE30 (h_kx hE21 hc16_1 (by decide)) (by decide)) rfl)
    have hE40 : h_E D30 D40 := h_E_set eD40 (by decide)
    refine hw_1 (fun k => x_aload_n dJ18_append_3_43 rfl k) ?_
    obtain ⟨rfl, rfl⟩ := ga_end h
    exact hw_ret hP40 (x_aret dJ18_append_3_44 rfl (by first | exact Or.inl ⟨_, rfl⟩ | exact Or.inr ⟨_, rfl⟩) hq)
  · rw [if_neg c1] at h
    refine hw_1 (fun k => x_ifnonnull (tgt := 9) dJ18_append_3_1 (by decide) (fun z => absurd z c1) (fun _ => k)) ?_
    refine hw_1 (fun k => x_aload_n dJ18_append_3_4 rfl k) ?_
    exact absurd h (by intro h; cases h)
theorem h_J19_append_3_ok {G : aw_G} {D D' : ga_D} {r : Int} {x0 x1 : Int} (hP : h_P D) (h : h_J19_append_3 x0 x1 D = some (r, D')) : aw_HR yJ19_append_3 cJ19_append_3 2 (some (.object "java/lang/StringBuilder")) 6 G [(2, x0), (2, x1)] D (some (2, r)) D' := by
  unfold h_J19_append_3 at h
  refine hw_body (own := "java/lang/StringBuilder") (ini := false) (ls := [(0, (2, x0)), (1, (2, x1))]) rfl rfl (fun h => by cases h) (Nat.le_of_ble_eq_true rfl) rfl fun Q hq => ?_
  refine hw_1 (fun k => x_aload_n dJ19_append_3_0 rfl k) ?_
  refine hw_1 (fun k => x_aload_n dJ19_append_3_1 rfl k) ?_
  replace h := ga_ck_some h; obtain ⟨hc2_0, h⟩ := h
  replace h := ga_bind_some h; obtain ⟨r2, D2, g2, h⟩ := h
  have hR2 := (h_J18_append_3_ok (G := G) hP g2)
  obtain ⟨hP2, hE2, -⟩ := id hR2
  refine hw_call (rest := []) hR2 (fun hc hk9 => x_callSU (as := [(2, x1)]) (rest := []) dJ19_append_3_2 hc q2853 q2851 q9596 q2653 q2852 q469 hc2_0 rfl (show _ ∧ _ = some 1 from by decide +kernel) (by decide) (by decide) rfl (Nat.le_of_ble_eq_true rfl) hk9 aw_nox) ?_
  refine hw_1 (fun k => x_pop dJ19_append_3_5 rfl k) ?_
  refine hw_1 (fun k => x_aload_n dJ19_append_3_6 rfl k) ?_
  obtain ⟨rfl, rfl⟩ := ga_end h
  exact hw_ret hP2 (x_aret dJ19_append_3_7 rfl (by first | exact Or.inl ⟨_, rfl⟩ | exact Or.inr ⟨_, rfl⟩) hq)
theorem h_J19_length_ok {G : aw_G} {D D' : ga_D} {r : Int} {x0 : Int} (hP : h_P D) (h : h_J19_length x0 D = some (r, D')) : aw_HR yJ19_length cJ19_length 1 (some (.int)) 1 G [(2, x0)] D (some (0, r)) D' := by
  unfold h_J19_length at h
  refine hw_body (own := "java/lang/StringBuilder") (ini := false) (ls := [(0, (2, x0))]) rfl rfl (fun h => by cases h) (Nat.le_of_ble_eq_true rfl) rfl fun Q hq => ?_
  refine hw_1 (fun k => x_aload_n dJ19_length_0 rfl k) ?_
  replace h := ga_ck_some h; obtain ⟨hc1_0, h⟩ := h
  replace h := ga_bind_some h; obtain ⟨r1, D1, g1, h⟩ := h
  have hR1 := (h_J18_length_ok (G := G) hP g1)
  obtain ⟨hP1, hE1, -⟩ := id hR1
  refine hw_call (rest := []) hR1 (fun hc hk9 => x_callSU (as := []) (rest := []) dJ19_length_1 hc q2757 q2756 q2752 q2653 q2751 q469 hc1_0 rfl (show _ ∧ _ = some 0 from by decide +kernel) (by decide) (by decide) rfl (Nat.le_of_ble_eq_true rfl) hk9 aw_nox) ?_
  obtain ⟨rfl, rfl⟩ := ga_end h
  exact hw_ret hP1 (x_iret dJ19_length_4 rfl rfl trivial hq)
theorem h_J12_checkLength_ok {G : aw_G} {D D' : ga_D} {r : Int} {x0 x1 : Int} (hP : h_P D) (h : h_J12_checkLength x0 x1 D = some (r, D')) : aw_HR yJ12_checkLength cJ12_checkLength 2 none 0 G [(0, x0), (0, x1)] D none D' := by
  unfold h_J12_checkLength at h
  refine hw_body (own := "java/util/Arrays") (ini := false) (ls := [(0, (0, x0)), (1, (0, x1))]) rfl rfl (fun h => by cases h) (Nat.le_of_ble_eq_true rfl) rfl fun Q hq => ?_
  refine hw_1 (fun k => x_iload_n dJ12_checkLength_0 rfl k) ?_
  refine hw_1 (fun k => x_iload_n dJ12_checkLength_1 rfl k) ?_
  by_cases c2 : x0 ≤ x1
  · rw [if_pos c2] at h
    refine hw_1 (fun k => x_icmp_ge (tgt := 37) dJ12_checkLength_2 (by decide) (fun _ => k) (fun z => absurd c2 z)) ?_
    obtain ⟨rfl, rfl⟩ := ga_end h
    exact hw_ret hP (x_vret dJ12_checkLength_37 rfl hq)
  · rw [if_neg c2] at h
    refine hw_1 (fun k => x_icmp_ge (tgt := 37) dJ12_checkLength_2 (by decide) (fun z => absurd z c2) (fun _ => k)) ?_
    exact absurd h (by intro h; cases h)
theorem h_J12_copyOfRangeByte_ok {G : aw_G} {D D' : ga_D} {r : Int} {x0 x1 x2 : Int} (hP : h_P D) (h : h_J12_copyOfRangeByte x0 x1 x2 D = some (r, D')) : aw_HR yJ12_copyOfRangeByte cJ12_copyOfRangeByte 5 (some (.array .byte)) 2 G [(2, x0), (0, x1), (0, x2)] D (some (2, r)) D' := by
  unfold h_J12_copyOfRangeByte at h
  refine hw_body (own := "java/util/Arrays") (ini := false) (ls := [(0, (2, x0)), (1, (0, x1)), (2, (0, x2))]) rfl rfl (fun h => by cases h) (Nat.le_of_ble_eq_true rfl) rfl fun Q hq => ?_
  refine hw_1 (fun k => x_iload_n dJ12_copyOfRangeByte_0 rfl k) ?_
  refine hw_1 (fun k => x_iload_n dJ12_copyOfRangeByte_1 rfl k) ?_
  replace h := ga_bind_some h; obtain ⟨r2, D2, g2, h⟩ := h
  have hR2 := (h_J12_checkLength_ok (G := G) hP g2)
  obtain ⟨hP2, hE2, -⟩ := id hR2
  refine hw_call (rest := []) hR2 (fun hc hk9 => x_callS (as := [(0, x1), (0, x2)]) (rest := []) dJ12_copyOfRangeByte_2 hc (lw_S q2765 q2766 q443 q2767) (show _ ∧ _ ∧ _ = some 2 from by decide +kernel) (by decide) (by decide) rfl (Nat.le_of_ble_eq_true rfl) hk9 aw_nox) ?_
  refine hw_1 (fun k => x_iload_n dJ12_copyOfRangeByte_5 rfl k) ?_
  refine hw_1 (fun k => x_iload_n dJ12_copyOfRangeByte_6 rfl k) ?_
  refine hw_1 (fun k => x_isub dJ12_copyOfRangeByte_7 rfl k) ?_
  replace h := ga_let_some h; obtain ⟨v8, ev8, h⟩ := h
  refine hw_nm ev8 ?_
  refine hw_1 (fun k => x_istore_n (ls' := [(3, (0, v8)), (0, (2, x0)), (1, (0, x1)), (2, (0, x2))]) dJ12_copyOfRangeByte_8 (by decide) rfl k) ?_
  refine hw_1 (fun k => x_iload_n dJ12_copyOfRangeByte_9 rfl k) ?_
  replace h := ga_ck_some h; obtain ⟨hc10_0, h⟩ := h
  replace h := ga_let_some h; obtain ⟨z10, ez10, h⟩ := h
  replace h := ga_let_some h; obtain ⟨D10, eD10, h⟩ := h
  refine hy_newa (t := 2) hP2 ez10 eD10 rfl rfl dJ12_copyOfRangeByte_10 rfl (by decide) q578 hc10_0.1 hc10_0.2 (fun hP10 hE10 hz10 hg10 => ?_)
  refine hw_1 (fun k => x_astore (ls' := [(4, (2, z10)), (3, (0, v8)), (0, (2, x0)), (1, (0, x1)), (2, (0, x2))]) dJ12_copyOfRangeByte_12 (by decide) rfl k) ?_
  refine hw_1 (fun k => x_aload_n dJ12_copyOfRangeByte_14 rfl k) ?_
  refine hw_1 (fun k => x_iload_n dJ12_copyOfRangeByte_15 rfl k) ?_
  refine hw_1 (fun k => x_aload dJ12_copyOfRangeByte_16 rfl k) ?_
  refine hw_1 (fun k => x_iconst dJ12_copyOfRangeByte_18 (by decide) k) ?_
  refine hw_1 (fun k => x_aload_n dJ12_copyOfRangeByte_19 rfl k) ?_
  replace h := ga_ck_some h; obtain ⟨hc20_1, h⟩ := h
  refine hw_1 (fun k => x_alen (t := 2) dJ12_copyOfRangeByte_20 (hk_p hc20_1) rfl k) ?_
  refine hw_1 (fun k => x_iload_n dJ12_copyOfRangeByte_21 rfl k) ?_
  refine hw_1 (fun k => x_isub dJ12_copyOfRangeByte_22 rfl k) ?_
  refine hw_1 (fun k => x_iload_n dJ12_copyOfRangeByte_23 rfl k) ?_
  refine hw_1 (fun k => x_mmin dJ12_copyOfRangeByte_24 q2065 q2066 q409 q2067 (by decide) (Nat.le_of_ble_eq_true rfl) rfl k) ?_
  replace h := ga_ck_some h; obtain ⟨hc27_2, h⟩ := h
  replace h := ga_let_some h; obtain ⟨D27, eD27, h⟩ := h
  refine hw_cp eD27 (Int.le_trans (by decide) hg10) hc27_2.2.1 (fun k => x_copy (t := 2) rfl dJ12_copyOfRangeByte_27 q2068 q2070 q2069 q444 (hk_p hc20_1) hz10 rfl rfl (Int.le_trans (by decide) hg10) hc27_2 (by decide) (Nat.le_of_ble_eq_true rfl) k) ?_
  have hP27 : h_P D27 := hP10.cp eD27 (Int.le_trans (by decide) hg10) hc27_2.2.1 (fun _ => hPn hz10 rfl)
  have hE27 : h_E D10 D27 := h_E_cp eD27 hc27_2.2.1
  refine hw_1 (fun k => x_aload dJ12_copyOfRangeByte_30 rfl k) ?_
  obtain ⟨rfl, rfl⟩ := ga_end h
  exact hw_ret hP27 (x_aret dJ12_copyOfRangeByte_32 rfl (by first | exact Or.inl ⟨_, rfl⟩ | exact Or.inr ⟨_, rfl⟩) hq)
theorem h_J12_copyOfRange_j10_ok {G : aw_G} {M0 : aw_M} {D' : ga_D} {Q : Option aw_V → aw_M → Prop} {r : Int} (hq : Q (some (2, r)) (hM D')) {x0 x1 x2 : Int} {D : ga_D} (hP : h_P D) (h : h_J12_copyOfRange_j10 x0 x1 x2 D = some (r, D')) : aw_HW G "java/util/Arrays" cJ12_copyOfRange (some (.array .byte)) 3 3 false M0 Q aw_no D' (hn D') (hsl D') 10 [(0, (2, x0)), (1, (0, x1)), (2, (0, x2))] [] D := by
  unfold h_J12_copyOfRange_j10 at h
  refine hw_1 (fun k => x_aload_n dJ12_copyOfRange_10 rfl k) ?_
  refine hw_1 (fun k => x_iload_n dJ12_copyOfRange_11 rfl k) ?_
  refine hw_1 (fun k => x_iload_n dJ12_copyOfRange_12 rfl k) ?_
  replace h := ga_bind_some h; obtain ⟨r13, D13, g13, h⟩ := h
  have hR13 := (h_J12_copyOfRangeByte_ok (G := G) hP g13)
  obtain ⟨hP13, hE13, -⟩ := id hR13
  refine hw_call (rest := []) hR13 (fun hc hk9 => x_callS (as := [(2, x0), (0, x1), (0, x2)]) (rest := []) dJ12_copyOfRange_13 hc (lw_S q2762 q2763 q443 q2764) (show _ ∧ _ ∧ _ = some 3 from by decide +kernel) (by decide) (by decide) rfl (Nat.le_of_ble_eq_true rfl) hk9 aw_nox) ?_
  obtain ⟨rfl, rfl⟩ := ga_end h
  exact hw_ret hP13 (x_aret dJ12_copyOfRange_16 rfl (by first | exact Or.inl ⟨_, rfl⟩ | exact Or.inr ⟨_, rfl⟩) hq)
theorem h_J12_copyOfRange_ok {G : aw_G} {D D' : ga_D} {r : Int} {x0 x1 x2 : Int} (hP : h_P D) (h : h_J12_copyOfRange x0 x1 x2 D = some (r, D')) : aw_HR yJ12_copyOfRange cJ12_copyOfRange 3 (some (.array .byte)) 3 G [(2, x0), (0, x1), (0, x2)] D (some (2, r)) D' := by
  unfold h_J12_copyOfRange at h
  refine hw_body (own := "java/util/Arrays") (ini := false) (ls := [(0, (2, x0)), (1, (0, x1)), (2, (0, x2))]) rfl rfl (fun h => by cases h) (Nat.le_of_ble_eq_true rfl) rfl fun Q hq => ?_
  refine hw_1 (fun k => x_iload_n dJ12_copyOfRange_0 rfl k) ?_
  by_cases c1 : x1 ≠ 0
  · rw [if_pos c1] at h
    refine hw_1 (fun k => x_if_ne (tgt := 10) dJ12_copyOfRange_1 (by decide) (fun _ => k) (fun z => absurd c1 z)) ?_
    refine h_J12_copyOfRange_j10_ok hq hP h
  · rw [if_neg c1] at h
    refine hw_1 (fun k => x_if_ne (tgt := 10) dJ12_copyOfRange_1 (by decide) (fun z => absurd z c1) (fun _ => k)) ?_
    refine hw_1 (fun k => x_iload_n dJ12_copyOfRange_4 rfl k) ?_
    refine hw_1 (fun k => x_aload_n dJ12_copyOfRange_5 rfl k) ?_
    replace h := ga_ck_some h; obtain ⟨hc6_0, h⟩ := h
    refine hw_1 (fun k => x_alen (t := 2) dJ12_copyOfRange_6 (hk_p hc6_0) rfl k) ?_
    by_cases c7 : x2 = (hk D x0).2
    · rw [if_pos c7] at h
      refine hw_1 (fun k => x_icmp_eq (tgt := 17) dJ12_copyOfRange_7 (by decide) (fun _ => k) (fun z => absurd c7 z)) ?_
      refine hw_1 (fun k => x_aload_n dJ12_copyOfRange_17 rfl k) ?_
      replace h := ga_ck_some h; obtain ⟨hc18_0, h⟩ := h
      replace h := ga_let_some h; obtain ⟨z18, ez18, h⟩ := h
      replace h := ga_let_some h; obtain ⟨D18a, eD18a, h⟩ := h
      replace h := ga_let_some h; obtain ⟨D18, eD18, h⟩ := h
      refine hy_clone hP ez18 eD18a eD18 rfl rfl dJ12_copyOfRange_18 q2674 q2675 q936 q937 q2676 q2677 (hk_p hc6_0) hc18_0.1 hc18_0.2 (by decide) (Nat.le_of_ble_eq_true rfl) (fun hP18 hE18 hz18 hg18 => ?_)
      refine hw_1 (fun k => x_castA (t := 2) dJ12_copyOfRange_21 q2678 rfl rfl (Or.inr hz18) k) ?_
      obtain ⟨rfl, rfl⟩ := ga_end h
      exact hw_ret hP18 (x_aret dJ12_copyOfRange_24 rfl (by first | exact Or.inl ⟨_, rfl⟩ | exact Or.inr ⟨_, rfl⟩) hq)
    · rw [if_neg c7] at h
      refine hw_1 (fun k => x_icmp_eq (tgt := 17) dJ12_copyOfRange_7 (by decide) (fun z => absurd z c7) (fun _ => k)) ?_
      refine h_J12_copyOfRange_j10_ok hq hP h
theorem h_J20_init_2_j79_ok {G : aw_G} {M0 : aw_M} {D' : ga_D} {Q : Option aw_V → aw_M → Prop} {r : Int} (hq : Q none (hM D')) {x0 x3 x4 : Int} {D : ga_D} (hP : h_P D) (h : h_J20_init_2_j79 x0 x3 x4 D = some (r, D')) : aw_HW G "java/lang/String" cJ20_init_2 none 5 4 true M0 Q aw_no D' (hn D') (hsl D') 79 [(0, (2, x0)), (3, (2, x3)), (4, (0, x4))] [] D := by
  unfold h_J20_init_2_j79 at h
  refine hw_1 (fun k => x_aload_n dJ20_init_2_79 rfl k) ?_
  refine hw_1 (fun k => x_iconst dJ20_init_2_80 (by decide) k) ?_
  replace h := ga_ck_some h; obtain ⟨hc81_0, h⟩ := h
  replace h := ga_ck_some h; obtain ⟨hc81_1, h⟩ := h
  replace h := ga_let_some h; obtain ⟨D81, eD81, h⟩ := h
  refine hw_set eD81 (Int.le_trans (by decide) hc81_1) (by decide) (fun k => x_putfF dJ20_init_2_81 fl_J20_15 rfl rfl hc81_0 hc81_1 (show ((-128) : Int) ≤ 1 ∧ (1 : Int) < 128 from by decide) k) ?_
  have hP81 : h_P D81 := hP.set eD81 hc81_1 (by decide) (hPn hc81_0 rfl)
  have hE81 : h_E D D81 := h_E_set eD81 (by decide)
  refine hw_1 (fun k => x_aload_n dJ20_init_2_84 rfl k) ?_
  refine hw_1 (fun k => x_aload_n dJ20_init_2_85 rfl k) ?_
  refine hw_1 (fun k => x_iconst dJ20_init_2_86 (by decide) k) ?_
  refine hw_1 (fun k => x_iload dJ20_init_2_87 rfl k) ?_
  refine hw_1 (fun k => x_iconst dJ20_init_2_89 (by decide) k) ?_
  refine hw_1 (fun k => x_ishl dJ20_init_2_90 rfl k) ?_
  replace h := ga_bind_some h; obtain ⟨r91, D91, g91, h⟩ := h
  have hR91 := (h_J12_copyOfRange_ok (G := G) hP81 g91)
  obtain ⟨hP91, hE91, -⟩ := id hR91
  refine hw_call (rest := [(2, x0)]) hR91 (fun hc hk9 => x_callS (as := [(2, x3), (0, 0), (0, aw_shl x4 1)]) (rest := [(2, x0)]) dJ20_init_2_91 hc (lw_S q2759 q2760 q443 q2761) (show _ ∧ _ ∧ _ = some 3 from by decide +kernel) (by decide) (by decide) rfl (Nat.le_of_ble_eq_true rfl) hk9 aw_nox) ?_
  replace h := ga_let_some h; obtain ⟨D94, eD94, h⟩ := h
  refine hw_set eD94 (Int.le_trans (by decide) hc81_1) (by decide) (fun k => x_putfF dJ20_init_2_94 fl_J20_9 rfl rfl (h_kx hE91 (h_kx hE81 hc81_0 (by decide)) (by decide)) hc81_1 trivial k) ?_
  have hP94 : h_P D94 := hP91.set eD94 hc81_1 (by decide) (hPn (h_kx hE91 (h_kx hE81 hc81_0 (by decide)) (by decide)) rfl)
  have hE94 : h_E D91 D94 := h_E_set eD94 (by decide)
  obtain ⟨rfl, rfl⟩ := ga_end h
  exact hw_ret hP94 (x_vret dJ20_init_2_97 rfl hq)
theorem h_J20_init_2_ok {G : aw_G} {D D' : ga_D} {r : Int} {x0 x1 x2 : Int} (hx0 : 0 < x0) (hP : h_P D) (h : h_J20_init_2 x0 x1 x2 D = some (r, D')) : aw_HR yJ20_init_2 cJ20_init_2 5 none 4 G [(2, x0), (2, x1), (2, x2)] D none D' := by
  unfold h_J20_init_2 at h
  refine hw_body (own := "java/lang/String") (ini := true) (ls := [(0, (2, x0)), (1, (2, x1)), (2, (2, x2))]) rfl rfl (fun _ => rfl) (Nat.le_of_ble_eq_true rfl) rfl fun Q hq => ?_
  refine hw_1 (fun k => x_aload_n dJ20_init_2_0 rfl k) ?_
  refine hw_1 (fun k => x_objInit0 dJ20_init_2_1 q2744 q512 q513 hx0 (by decide) (Nat.le_of_ble_eq_true rfl) k) ?_
  refine hw_1 (fun k => x_aload_n dJ20_init_2_4 rfl k) ?_
  replace h := ga_ck_some h; obtain ⟨hc5_0, h⟩ := h
  replace h := ga_bind_some h; obtain ⟨r5, D5, g5, h⟩ := h
  have hR5 := (h_J18_getValue_ok (G := G) hP g5)
  obtain ⟨hP5, hE5, -⟩ := id hR5
  refine hw_call (rest := []) hR5 (fun hc hk9 => x_callU (C := "java/lang/StringBuilder") (owner := "java/lang/AbstractStringBuilder") (as := []) (rest := []) dJ20_init_2_5 hc q2749 q2745 q2747 (Or.inl ⟨_, _, _, q2749, q2746⟩) q2748 q2746 q469 hc5_0 rfl rfl (show _ ∧ _ ∧ _ = some 0 from by decide +kernel) (by decide) (by decide) rfl (Nat.le_of_ble_eq_true rfl) hk9 aw_nox) ?_
  refine hw_1 (fun k => x_astore_n (ls' := [(3, (2, r5)), (0, (2, x0)), (1, (2, x1)), (2, (2, x2))]) dJ20_init_2_8 (by decide) rfl k) ?_
  refine hw_1 (fun k => x_aload_n dJ20_init_2_9 rfl k) ?_
  replace h := ga_bind_some h; obtain ⟨r10, D10, g10, h⟩ := h
  have hR10 := (h_J19_length_ok (G := G) hP5 g10)
  obtain ⟨hP10, hE10, -⟩ := id hR10
  refine hw_call (rest := []) hR10 (fun hc hk9 => x_callU (C := "java/lang/StringBuilder") (owner := "java/lang/AbstractStringBuilder") (as := []) (rest := []) dJ20_init_2_10 hc q2755 q2750 q2752 (Or.inl ⟨_, _, _, q2757, q2751⟩) q2753 q2754 q470 (h_kx hE5 hc5_0 (by decide)) rfl rfl (show _ ∧ _ ∧ _ = some 0 from by decide +kernel) (by decide) (by decide) rfl (Nat.le_of_ble_eq_true rfl) hk9 aw_nox) ?_
  refine hw_1 (fun k => x_istore (ls' := [(4, (0, r10)), (3, (2, r5)), (0, (2, x0)), (1, (2, x1)), (2, (2, x2))]) dJ20_init_2_13 (by decide) rfl k) ?_
  refine hw_1 (fun k => x_aload_n dJ20_init_2_15 rfl k) ?_
  replace h := ga_bind_some h; obtain ⟨r16, D16, g16, h⟩ := h
  have hR16 := (h_J18_isLatin1_ok (G := G) hP10 g16)
  obtain ⟨hP16, hE16, -⟩ := id hR16
  refine hw_call (rest := []) hR16 (fun hc hk9 => x_callU (C := "java/lang/StringBuilder") (owner := "java/lang/AbstractStringBuilder") (as := []) (rest := []) dJ20_init_2_16 hc q2683 q2758 q2681 (Or.inl ⟨_, _, _, q2683, q2680⟩) q2682 q2680 q469 (h_kx hE10 (h_kx hE5 hc5_0 (by decide)) (by decide)) rfl rfl (show _ ∧ _ ∧ _ = some 0 from by decide +kernel) (by decide) (by decide) rfl (Nat.le_of_ble_eq_true rfl) hk9 aw_nox) ?_
  by_cases c19 : r16 = 0
  · rw [if_pos c19] at h
    refine hw_1 (fun k => x_if_eq (tgt := 41) dJ20_init_2_19 (by decide) (fun _ => k) (fun z => absurd c19 z)) ?_
    refine hw_1 (fun k => x_gets (tg := 0) (z := 1) dJ20_init_2_41 q2869 (by decide +kernel) k) ?_
    refine hw_1 (fun k => x_if_eq (tgt := 79) dJ20_init_2_44 (by decide) (fun z => absurd z (show ¬ ((1 : Int) = 0) from (by decide))) (fun _ => k)) ?_
    refine hw_1 (fun k => x_aload_n dJ20_init_2_47 rfl k) ?_
    refine hw_1 (fun k => x_getf (v := D16 x1 2) dJ20_init_2_48 fl_J20_1048 (h_kx hE16 (h_kx hE10 (h_kx hE5 hc5_0 (by decide)) (by decide)) (by decide)) rfl k) ?_
    by_cases c51 : D16 x1 2 = 0
    · rw [if_pos c51] at h
      refine hw_1 (fun k => x_if_eq (tgt := 79) dJ20_init_2_51 (by decide) (fun _ => k) (fun z => absurd c51 z)) ?_
      refine hw_locs [2, 1, 0] (ls' := [(0, (2, x0)), (3, (2, r5)), (4, (0, r10))]) rfl ?_
      refine h_J20_init_2_j79_ok hq hP16 h
    · rw [if_neg c51] at h
      refine hw_1 (fun k => x_if_eq (tgt := 79) dJ20_init_2_51 (by decide) (fun z => absurd z c51) (fun _ => k)) ?_
      refine hw_1 (fun k => x_aload_n dJ20_init_2_54 rfl k) ?_
      refine hw_1 (fun k => x_aload_n dJ20_init_2_55 rfl k) ?_
      refine hw_1 (fun k => x_iconst dJ20_init_2_56 (by decide) k) ?_
      refine hw_1 (fun k => x_iload dJ20_init_2_57 rfl k) ?_
      exact absurd h (by intro h; cases h)
  · rw [if_neg c19] at h
    refine hw_1 (fun k => x_if_eq (tgt := 41) dJ20_init_2_19 (by decide) (fun z => absurd z c19) (fun _ => k)) ?_
    refine hw_1 (fun k => x_aload_n dJ20_init_2_22 rfl k) ?_
    refine hw_1 (fun k => x_iconst dJ20_init_2_23 (by decide) k) ?_
    replace h := ga_ck_some h; obtain ⟨hc24_0, h⟩ := h
    replace h := ga_ck_some h; obtain ⟨hc24_1, h⟩ := h
    replace h := ga_let_some h; obtain ⟨D24, eD24, h⟩ := h
    refine hw_set eD24 (Int.le_trans (by decide) hc24_1) (by decide) (fun k => x_putfF dJ20_init_2_24 fl_J20_15 rfl rfl hc24_0 hc24_1 (show ((-128) : Int) ≤ 0 ∧ (0 : Int) < 128 from by decide) k) ?_
    have hP24 : h_P D24 := hP16.set eD24 hc24_1 (by decide) (hPn hc24_0 rfl)
    have hE24 : h_E D16 D24 := h_E_set eD24 (by decide)
    refine hw_1 (fun k => x_aload_n dJ20_init_2_27 rfl k) ?_
    refine hw_1 (fun k => x_aload_n dJ20_init_2_28 rfl k) ?_
    refine hw_1 (fun k => x_iconst dJ20_init_2_29 (by decide) k) ?_
    refine hw_1 (fun k => x_iload dJ20_init_2_30 rfl k) ?_
    replace h := ga_bind_some h; obtain ⟨r32, D32, g32, h⟩ := h
    have hR32 := (h_J12_copyOfRange_ok (G := G) hP24 g32)
    obtain ⟨hP32, hE32, -⟩ := id hR32
    refine hw_call (rest := [(2, x0)]) hR32 (fun hc hk9 => x_callS (as := [(2, r5), (0, 0), (0, r10)]) (rest := [(2, x0)]) dJ20_init_2_32 hc (lw_S q2759 q2760 q443 q2761) (show _ ∧ _ ∧ _ = some 3 from by decide +kernel) (by decide) (by decide) rfl (Nat.le_of_ble_eq_true rfl) hk9 aw_nox) ?_
    replace h := ga_let_some h; obtain ⟨D35, eD35, h⟩ := h
    refine hw_set eD35 (Int.le_trans (by decide) hc24_1) (by decide) (fun k => x_putfF dJ20_init_2_35 fl_J20_9 rfl rfl (h_kx hE32 (h_kx hE24 hc24_0 (by decide)) (by decide)) hc24_1 trivial k) ?_
    have hP35 : h_P D35 := hP32.set eD35 hc24_1 (by decide) (hPn (h_kx hE32 (h_kx hE24 hc24_0 (by decide)) (by decide)) rfl)
    have hE35 : h_E D32 D35 := h_E_set eD35 (by decide)
    refine hw_1 (fun k => x_goto (tgt := 97) dJ20_init_2_38 (by decide) k) ?_
    obtain ⟨rfl, rfl⟩ := ga_end h
    exact hw_ret hP35 (x_vret dJ20_init_2_97 rfl hq)
theorem h_J20_init_ok {G : aw_G} {D D' : ga_D} {r : Int} {x0 x1 : Int} (hx0 : 0 < x0) (hP : h_P D) (h : h_J20_init x0 x1 D = some (r, D')) : aw_HR yJ20_init cJ20_init 2 none 5 G [(2, x0), (2, x1)] D none D' := by
  unfold h_J20_init at h
  refine hw_body (own := "java/lang/String") (ini := true) (ls := [(0, (2, x0)), (1, (2, x1))]) rfl rfl (fun _ => rfl) (Nat.le_of_ble_eq_true rfl) rfl fun Q hq => ?_
  refine hw_1 (fun k => x_aload_n dJ20_init_0 rfl k) ?_
  refine hw_1 (fun k => x_aload_n dJ20_init_1 rfl k) ?_
  refine hw_1 (fun k => x_null dJ20_init_2 k) ?_
  replace h := ga_ck_some h; obtain ⟨hc3_0, h⟩ := h
  replace h := ga_bind_some h; obtain ⟨r3, D3, g3, h⟩ := h
  have hR3 := (h_J20_init_2_ok (G := G) hx0 hP g3)
  obtain ⟨hP3, hE3, -⟩ := id hR3
  refine hw_call (rest := []) hR3 (fun hc hk9 => x_callI0 (as := [(2, x1), (2, 0)]) (rest := []) dJ20_init_3 hc (lw_meth q2743) q471 q2741 q2742 hx0 rfl (show _ ∧ _ ∧ _ = some 2 from by decide +kernel) (by decide) (by decide) rfl (Nat.le_of_ble_eq_true rfl) hk9 aw_nox) ?_
  obtain ⟨rfl, rfl⟩ := ga_end h
  exact hw_ret hP3 (x_vret dJ20_init_6 rfl hq)
theorem h_J19_toString_ok {G : aw_G} {D D' : ga_D} {r : Int} {x0 : Int} (hP : h_P D) (h : h_J19_toString x0 D = some (r, D')) : aw_HR yJ19_toString cJ19_toString 1 (some (.object "java/lang/String")) 6 G [(2, x0)] D (some (2, r)) D' := by
  unfold h_J19_toString at h
  refine hw_body (own := "java/lang/StringBuilder") (ini := false) (ls := [(0, (2, x0))]) rfl rfl (fun h => by cases h) (Nat.le_of_ble_eq_true rfl) rfl fun Q hq => ?_
  replace h := ga_let_some h; obtain ⟨z0, ez0, h⟩ := h
  replace h := ga_let_some h; obtain ⟨D0, eD0, h⟩ := h
  refine hy_new hP ez0 eD0 rfl rfl dJ19_toString_0 rfl rfl q2736 q2737 q471 (fun hP0 hE0 hz0 hg0 => ?_)
  refine hw_1 (fun k => x_dup dJ19_toString_3 rfl k) ?_
  refine hw_1 (fun k => x_aload_n dJ19_toString_4 rfl k) ?_
  replace h := ga_bind_some h; obtain ⟨r5, D5, g5, h⟩ := h
  have hR5 := (h_J20_init_ok (G := G) (hk_pos1 hz0 (by decide)) hP0 g5)
  obtain ⟨hP5, hE5, -⟩ := id hR5
  refine hw_call (rest := [(2, z0)]) hR5 (fun hc hk9 => x_callI (as := [(2, x0)]) (rest := [(2, z0)]) dJ19_toString_5 hc (lw_meth q2740) q471 q2738 q2739 hz0 rfl rfl (show _ ∧ _ ∧ _ = some 1 from by decide +kernel) (by decide) (by decide) rfl (Nat.le_of_ble_eq_true rfl) hk9 aw_nox) ?_
  obtain ⟨rfl, rfl⟩ := ga_end h
  exact hw_ret hP5 (x_aret dJ19_toString_8 rfl (by first | exact Or.inl ⟨_, rfl⟩ | exact Or.inr ⟨_, rfl⟩) hq)
theorem h_J25_hashCode_2_ok {G : aw_G} {D D' : ga_D} {r : Int} {x0 : Int} (hP : h_P D) (h : h_J25_hashCode_2 x0 D = some (r, D')) : aw_HR yJ25_hashCode_2 cJ25_hashCode_2 1 (some (.int)) 0 G [(0, x0)] D (some (0, r)) D' := by
  unfold h_J25_hashCode_2 at h
  refine hw_body (own := "java/lang/Integer") (ini := false) (ls := [(0, (0, x0))]) rfl rfl (fun h => by cases h) (Nat.le_of_ble_eq_true rfl) rfl fun Q hq => ?_
  refine hw_1 (fun k => x_iload_n dJ25_hashCode_2_0 rfl k) ?_
  obtain ⟨rfl, rfl⟩ := ga_end h
  exact hw_ret hP (x_iret dJ25_hashCode_2_1 rfl rfl trivial hq)
theorem h_J25_hashCode_ok {G : aw_G} {D D' : ga_D} {r : Int} {x0 : Int} (hP : h_P D) (h : h_J25_hashCode x0 D = some (r, D')) : aw_HR yJ25_hashCode cJ25_hashCode 1 (some (.int)) 1 G [(2, x0)] D (some (0, r)) D' := by
  unfold h_J25_hashCode at h
  refine hw_body (own := "java/lang/Integer") (ini := false) (ls := [(0, (2, x0))]) rfl rfl (fun h => by cases h) (Nat.le_of_ble_eq_true rfl) rfl fun Q hq => ?_
  refine hw_1 (fun k => x_aload_n dJ25_hashCode_0 rfl k) ?_
  replace h := ga_ck_some h; obtain ⟨hc1_0, h⟩ := h
  refine hw_1 (fun k => x_getf (v := D x0 0) dJ25_hashCode_1 fl_J25_205 hc1_0 rfl k) ?_
  replace h := ga_bind_some h; obtain ⟨r4, D4, g4, h⟩ := h
  have hR4 := (h_J25_hashCode_2_ok (G := G) hP g4)
  obtain ⟨hP4, hE4, -⟩ := id hR4
  refine hw_call (rest := []) hR4 (fun hc hk9 => x_callS (as := [(0, D x0 0)]) (rest := []) dJ25_hashCode_4 hc (lw_S q3668 q3669 q476 q3670) (show _ ∧ _ ∧ _ = some 1 from by decide +kernel) (by decide) (by decide) rfl (Nat.le_of_ble_eq_true rfl) hk9 aw_nox) ?_
  obtain ⟨rfl, rfl⟩ := ga_end h
  exact hw_ret hP4 (x_iret dJ25_hashCode_7 rfl rfl trivial hq)
theorem h_J30_hashCode_2_ok {G : aw_G} {D D' : ga_D} {r : Int} {x0 : Int} (hP : h_P D) (h : h_J30_hashCode_2 x0 D = some (r, D')) : aw_HR yJ30_hashCode_2 cJ30_hashCode_2 2 (some (.int)) 0 G [(1, x0)] D (some (0, r)) D' := by
  unfold h_J30_hashCode_2 at h
  refine hw_body (own := "java/lang/Long") (ini := false) (ls := [(0, (1, x0))]) rfl rfl (fun h => by cases h) (Nat.le_of_ble_eq_true rfl) rfl fun Q hq => ?_
  refine hw_1 (fun k => x_lload_n dJ30_hashCode_2_0 rfl k) ?_
  refine hw_1 (fun k => x_lload_n dJ30_hashCode_2_1 rfl k) ?_
  refine hw_1 (fun k => x_bipush dJ30_hashCode_2_2 (by decide) k) ?_
  refine hw_1 (fun k => x_lushr dJ30_hashCode_2_4 rfl k) ?_
  refine hw_1 (fun k => x_lxor dJ30_hashCode_2_5 rfl k) ?_
  refine hw_1 (fun k => x_l2i dJ30_hashCode_2_6 rfl k) ?_
  obtain ⟨rfl, rfl⟩ := ga_end h
  exact hw_ret hP (x_iret dJ30_hashCode_2_7 rfl rfl trivial hq)
theorem h_J30_hashCode_ok {G : aw_G} {D D' : ga_D} {r : Int} {x0 : Int} (hP : h_P D) (h : h_J30_hashCode x0 D = some (r, D')) : aw_HR yJ30_hashCode cJ30_hashCode 1 (some (.int)) 1 G [(2, x0)] D (some (0, r)) D' := by
  unfold h_J30_hashCode at h
  refine hw_body (own := "java/lang/Long") (ini := false) (ls := [(0, (2, x0))]) rfl rfl (fun h => by cases h) (Nat.le_of_ble_eq_true rfl) rfl fun Q hq => ?_
  refine hw_1 (fun k => x_aload_n dJ30_hashCode_0 rfl k) ?_
  replace h := ga_ck_some h; obtain ⟨hc1_0, h⟩ := h
  refine hw_1 (fun k => x_getf (v := D x0 0) dJ30_hashCode_1 fl_J30_273 hc1_0 rfl k) ?_
  replace h := ga_bind_some h; obtain ⟨r4, D4, g4, h⟩ := h
  have hR4 := (h_J30_hashCode_2_ok (G := G) hP g4)
  obtain ⟨hP4, hE4, -⟩ := id hR4
  refine hw_call (rest := []) hR4 (fun hc hk9 => x_callS (as := [(1, D x0 0)]) (rest := []) dJ30_hashCode_4 hc (lw_S q3674 q3675 q485 q3676) (show _ ∧ _ ∧ _ = some 1 from by decide +kernel) (by decide) (by decide) rfl (Nat.le_of_ble_eq_true rfl) hk9 aw_nox) ?_
  obtain ⟨rfl, rfl⟩ := ga_end h
  exact hw_ret hP4 (x_iret dJ30_hashCode_7 rfl rfl trivial hq)
theorem h_J10_hash_ok {G : aw_G} {D D' : ga_D} {r : Int} {x0 : Int} (hP : h_P D) (h : h_J10_hash x0 D = some (r, D')) : aw_HR yJ10_hash cJ10_hash 2 (some (.int)) 2 G [(2, x0)] D (some (0, r)) D' := by
  unfold h_J10_hash at h
  refine hw_body (own := "java/util/HashMap") (ini := false) (ls := [(0, (2, x0))]) rfl rfl (fun h => by cases h) (Nat.le_of_ble_eq_true rfl) rfl fun Q hq => ?_
  refine hw_1 (fun k => x_aload_n dJ10_hash_0 rfl k) ?_
  by_cases c1 : x0 ≠ 0
  · rw [if_pos c1] at h
    refine hw_1 (fun k => x_ifnonnull (tgt := 8) dJ10_hash_1 (by decide) (fun _ => k) (fun z => absurd c1 z)) ?_
    refine hw_1 (fun k => x_aload_n dJ10_hash_8 rfl k) ?_
    replace h := ga_bind_some h; obtain ⟨r9, D9, g9, h⟩ := h
    have hS9 : h_P D9 ∧ h_E D D9 ∧ ∃ mc ms : Nat, hn D + mc = hn D9 ∧ hsl D + ms = hsl D9 ∧ ∀ {c sl : Nat}, aw_W G "java/util/HashMap" cJ10_hash (some (.int)) 2 2 false (hM D) Q aw_no c sl 12 [(0, (2, x0))] [(0, r9)] (hM D9) → aw_W G "java/util/HashMap" cJ10_hash (some (.int)) 2 2 false (hM D) Q aw_no (c + mc) (sl + ms) 9 [(0, (2, x0))] [(2, x0)] (hM D) := by
      by_cases w9_69 : hk D x0 = (69, 0)
      · rw [if_pos w9_69] at g9
        exact absurd g9 (by intro h; cases h)
      rw [if_neg w9_69] at g9
      by_cases w9_70 : hk D x0 = (70, 0)
      · rw [if_pos w9_70] at g9
        have hR := (h_J25_hashCode_ok (G := G) hP g9)
        exact hw_callM (rest := []) hR (fun hc hk9 => x_callU (C := "java/lang/Integer") (owner := "java/lang/Object") (as := []) (rest := []) dJ10_hash_9 hc q3667 q3592 q3594 (Or.inr q3591) q3665 q3666 q476 w9_70 rfl rfl (show _ ∧ _ ∧ _ = some 0 from by decide +kernel) (by decide) (by decide) rfl (Nat.le_of_ble_eq_true rfl) hk9 aw_nox)
      rw [if_neg w9_70] at g9
      by_cases w9_73 : hk D x0 = (73, 0)
      · rw [if_pos w9_73] at g9
        have hR := (h_J30_hashCode_ok (G := G) hP g9)
        exact hw_callM (rest := []) hR (fun hc hk9 => x_callU (C := "java/lang/Long") (owner := "java/lang/Object") (as := []) (rest := []) dJ10_hash_9 hc q3673 q3592 q3594 (Or.inr q3591) q3671 q3672 q485 w9_73 rfl rfl (show _ ∧ _ ∧ _ = some 0 from by decide +kernel) (by decide) (by decide) rfl (Nat.le_of_ble_eq_true rfl) hk9 aw_nox)
      rw [if_neg w9_73] at g9
      exact absurd g9 (by intro h; cases h)
    obtain ⟨hP9, hE9, hS9⟩ := hS9
    refine hw_go ⟨hE9, hS9⟩ ?_
    refine hw_1 (fun k => x_dup dJ10_hash_12 rfl k) ?_
    refine hw_1 (fun k => x_istore_n (ls' := [(1, (0, r9)), (0, (2, x0))]) dJ10_hash_13 (by decide) rfl k) ?_
    refine hw_1 (fun k => x_iload_n dJ10_hash_14 rfl k) ?_
    refine hw_1 (fun k => x_bipush dJ10_hash_15 (by decide) k) ?_
    refine hw_1 (fun k => x_iushr dJ10_hash_17 rfl k) ?_
    refine hw_1 (fun k => x_ixor dJ10_hash_18 rfl k) ?_
    obtain ⟨rfl, rfl⟩ := ga_end h
    exact hw_ret hP9 (x_iret dJ10_hash_19 rfl rfl trivial hq)
  · rw [if_neg c1] at h
    refine hw_1 (fun k => x_ifnonnull (tgt := 8) dJ10_hash_1 (by decide) (fun z => absurd z c1) (fun _ => k)) ?_
    refine hw_1 (fun k => x_iconst dJ10_hash_4 (by decide) k) ?_
    refine hw_1 (fun k => x_goto (tgt := 19) dJ10_hash_5 (by decide) k) ?_
    obtain ⟨rfl, rfl⟩ := ga_end h
    exact hw_ret hP (x_iret dJ10_hash_19 rfl rfl trivial hq)
theorem h_J31_init_ok {G : aw_G} {D D' : ga_D} {r : Int} {x0 x1 x2 x3 x4 : Int} (hx0 : 0 < x0) (hP : h_P D) (h : h_J31_init x0 x1 x2 x3 x4 D = some (r, D')) : aw_HR yJ31_init cJ31_init 5 none 1 G [(2, x0), (0, x1), (2, x2), (2, x3), (2, x4)] D none D' := by
  unfold h_J31_init at h
  refine hw_body (own := "java/util/HashMap$Node") (ini := true) (ls := [(0, (2, x0)), (1, (0, x1)), (2, (2, x2)), (3, (2, x3)), (4, (2, x4))]) rfl rfl (fun _ => rfl) (Nat.le_of_ble_eq_true rfl) rfl fun Q hq => ?_
  refine hw_1 (fun k => x_aload_n dJ31_init_0 rfl k) ?_
  refine hw_1 (fun k => x_objInit0 dJ31_init_1 q3768 q512 q513 hx0 (by decide) (Nat.le_of_ble_eq_true rfl) k) ?_
  refine hw_1 (fun k => x_aload_n dJ31_init_4 rfl k) ?_
  refine hw_1 (fun k => x_iload_n dJ31_init_5 rfl k) ?_
  replace h := ga_ck_some h; obtain ⟨hc6_0, h⟩ := h
  replace h := ga_let_some h; obtain ⟨D6, eD6, h⟩ := h
  refine hw_set eD6 (Int.le_trans (by decide) (hkge_74 hc6_0)) (by decide) (fun k => x_putfF dJ31_init_6 fl_J31_7 rfl rfl hc6_0 (hkge_74 hc6_0) trivial k) ?_
  have hP6 : h_P D6 := hP.set eD6 (hkge_74 hc6_0) (by decide) (hPn hc6_0 rfl)
  have hE6 : h_E D D6 := h_E_set eD6 (by decide)
  refine hw_1 (fun k => x_aload_n dJ31_init_9 rfl k) ?_
  refine hw_1 (fun k => x_aload_n dJ31_init_10 rfl k) ?_
  replace h := ga_let_some h; obtain ⟨D11, eD11, h⟩ := h
  refine hw_set eD11 (Int.le_trans (by decide) (hkge_74 (h_kx hE6 hc6_0 (by decide)))) (by decide) (fun k => x_putfF dJ31_init_11 fl_J31_13 rfl rfl (h_kx hE6 hc6_0 (by decide)) (hkge_74 (h_kx hE6 hc6_0 (by decide))) trivial k) ?_
  have hP11 : h_P D11 := hP6.set eD11 (hkge_74 (h_kx hE6 hc6_0 (by decide))) (by decide) (hPn (h_kx hE6 hc6_0 (by decide)) rfl)
  have hE11 : h_E D6 D11 := h_E_set eD11 (by decide)
  refine hw_1 (fun k => x_aload_n dJ31_init_14 rfl k) ?_
  refine hw_1 (fun k => x_aload_n dJ31_init_15 rfl k) ?_
  replace h := ga_let_some h; obtain ⟨D16, eD16, h⟩ := h
  refine hw_set eD16 (Int.le_trans (by decide) (hkge_74 (h_kx hE11 (h_kx hE6 hc6_0 (by decide)) (by decide)))) (by decide) (fun k => x_putf dJ31_init_16 fl_J31_17 rfl (h_kx hE11 (h_kx hE6 hc6_0 (by decide)) (by decide)) (hkge_74 (h_kx hE11 (h_kx hE6 hc6_0 (by decide)) (by decide))) trivial k) ?_
  have hP16 : h_P D16 := hP11.set eD16 (hkge_74 (h_kx hE11 (h_kx hE6 hc6_0 (by decide)) (by decide))) (by decide) (hPn (h_kx hE11 (h_kx hE6 hc6_0 (by decide)) (by decide)) rfl)
  have hE16 : h_E D11 D16 := h_E_set eD16 (by decide)
  refine hw_1 (fun k => x_aload_n dJ31_init_19 rfl k) ?_
  refine hw_1 (fun k => x_aload dJ31_init_20 rfl k) ?_
  replace h := ga_let_some h; obtain ⟨D22, eD22, h⟩ := h
  refine hw_set eD22 (Int.le_trans (by decide) (hkge_74 (h_kx hE16 (h_kx hE11 (h_kx hE6 hc6_0 (by decide)) (by decide)) (by decide)))) (by decide) (fun k => x_putf dJ31_init_22 fl_J31_20 rfl (h_kx hE16 (h_kx hE11 (h_kx hE6 hc6_0 (by decide)) (by decide)) (by decide)) (hkge_74 (h_kx hE16 (h_kx hE11 (h_kx hE6 hc6_0 (by decide)) (by decide)) (by decide))) trivial k) ?_
  have hP22 : h_P D22 := hP16.set eD22 (hkge_74 (h_kx hE16 (h_kx hE11 (h_kx hE6 hc6_0 (by decide)) (by decide)) (by decide))) (by decide) (hPn (h_kx hE16 (h_kx hE11 (h_kx hE6 hc6_0 (by decide)) (by decide)) (by decide)) rfl)
  have hE22 : h_E D16 D22 := h_E_set eD22 (by decide)
  obtain ⟨rfl, rfl⟩ := ga_end h
  exact hw_ret hP22 (x_vret dJ31_init_25 rfl hq)
theorem h_J25_compare_ok {G : aw_G} {D D' : ga_D} {r : Int} {x0 x1 : Int} (hP : h_P D) (h : h_J25_compare x0 x1 D = some (r, D')) : aw_HR yJ25_compare cJ25_compare 2 (some (.int)) 0 G [(0, x0), (0, x1)] D (some (0, r)) D' := by
  unfold h_J25_compare at h
  refine hw_body (own := "java/lang/Integer") (ini := false) (ls := [(0, (0, x0)), (1, (0, x1))]) rfl rfl (fun h => by cases h) (Nat.le_of_ble_eq_true rfl) rfl fun Q hq => ?_
  refine hw_1 (fun k => x_iload_n dJ25_compare_0 rfl k) ?_
  refine hw_1 (fun k => x_iload_n dJ25_compare_1 rfl k) ?_
  by_cases c2 : x1 ≤ x0
  · rw [if_pos c2] at h
    refine hw_1 (fun k => x_icmp_ge (tgt := 9) dJ25_compare_2 (by decide) (fun _ => k) (fun z => absurd c2 z)) ?_
    refine hw_1 (fun k => x_iload_n dJ25_compare_9 rfl k) ?_
    refine hw_1 (fun k => x_iload_n dJ25_compare_10 rfl k) ?_
    by_cases c11 : x0 ≠ x1
    · rw [if_pos c11] at h
      refine hw_1 (fun k => x_icmp_ne (tgt := 18) dJ25_compare_11 (by decide) (fun _ => k) (fun z => absurd c11 z)) ?_
      refine hw_1 (fun k => x_iconst dJ25_compare_18 (by decide) k) ?_
      obtain ⟨rfl, rfl⟩ := ga_end h
      exact hw_ret hP (x_iret dJ25_compare_19 rfl rfl trivial hq)
    · rw [if_neg c11] at h
      refine hw_1 (fun k => x_icmp_ne (tgt := 18) dJ25_compare_11 (by decide) (fun z => absurd z c11) (fun _ => k)) ?_
      refine hw_1 (fun k => x_iconst dJ25_compare_14 (by decide) k) ?_
      refine hw_1 (fun k => x_goto (tgt := 19) dJ25_compare_15 (by decide) k) ?_
      obtain ⟨rfl, rfl⟩ := ga_end h
      exact hw_ret hP (x_iret dJ25_compare_19 rfl rfl trivial hq)
  · rw [if_neg c2] at h
    refine hw_1 (fun k => x_icmp_ge (tgt := 9) dJ25_compare_2 (by decide) (fun z => absurd z c2) (fun _ => k)) ?_
    refine hw_1 (fun k => x_iconst dJ25_compare_5 (by decide) k) ?_
    refine hw_1 (fun k => x_goto (tgt := 19) dJ25_compare_6 (by decide) k) ?_
    obtain ⟨rfl, rfl⟩ := ga_end h
    exact hw_ret hP (x_iret dJ25_compare_19 rfl rfl trivial hq)
theorem h_J25_compareTo_2_ok {G : aw_G} {D D' : ga_D} {r : Int} {x0 x1 : Int} (hP : h_P D) (h : h_J25_compareTo_2 x0 x1 D = some (r, D')) : aw_HR yJ25_compareTo_2 cJ25_compareTo_2 2 (some (.int)) 1 G [(2, x0), (2, x1)] D (some (0, r)) D' := by
  unfold h_J25_compareTo_2 at h
  refine hw_body (own := "java/lang/Integer") (ini := false) (ls := [(0, (2, x0)), (1, (2, x1))]) rfl rfl (fun h => by cases h) (Nat.le_of_ble_eq_true rfl) rfl fun Q hq => ?_
  refine hw_1 (fun k => x_aload_n dJ25_compareTo_2_0 rfl k) ?_
  replace h := ga_ck_some h; obtain ⟨hc1_0, h⟩ := h
  refine hw_1 (fun k => x_getf (v := D x0 0) dJ25_compareTo_2_1 fl_J25_205 hc1_0 rfl k) ?_
  refine hw_1 (fun k => x_aload_n dJ25_compareTo_2_4 rfl k) ?_
  replace h := ga_ck_some h; obtain ⟨hc5_1, h⟩ := h
  refine hw_1 (fun k => x_getf (v := D x1 0) dJ25_compareTo_2_5 fl_J25_205 hc5_1 rfl k) ?_
  replace h := ga_bind_some h; obtain ⟨r8, D8, g8, h⟩ := h
  have hR8 := (h_J25_compare_ok (G := G) hP g8)
  obtain ⟨hP8, hE8, -⟩ := id hR8
  refine hw_call (rest := []) hR8 (fun hc hk9 => x_callS (as := [(0, D x0 0), (0, D x1 0)]) (rest := []) dJ25_compareTo_2_8 hc (lw_S q3848 q3849 q476 q3850) (show _ ∧ _ ∧ _ = some 2 from by decide +kernel) (by decide) (by decide) rfl (Nat.le_of_ble_eq_true rfl) hk9 aw_nox) ?_
  obtain ⟨rfl, rfl⟩ := ga_end h
  exact hw_ret hP8 (x_iret dJ25_compareTo_2_11 rfl rfl trivial hq)
theorem h_J25_compareTo_ok {G : aw_G} {D D' : ga_D} {r : Int} {x0 x1 : Int} (hP : h_P D) (h : h_J25_compareTo x0 x1 D = some (r, D')) : aw_HR yJ25_compareTo cJ25_compareTo 2 (some (.int)) 2 G [(2, x0), (2, x1)] D (some (0, r)) D' := by
  unfold h_J25_compareTo at h
  refine hw_body (own := "java/lang/Integer") (ini := false) (ls := [(0, (2, x0)), (1, (2, x1))]) rfl rfl (fun h => by cases h) (Nat.le_of_ble_eq_true rfl) rfl fun Q hq => ?_
  refine hw_1 (fun k => x_aload_n dJ25_compareTo_0 rfl k) ?_
  refine hw_1 (fun k => x_aload_n dJ25_compareTo_1 rfl k) ?_
  replace h := ga_ck_some h; obtain ⟨hc2_0, h⟩ := h
  refine hw_1 (fun k => x_castL (L := [70]) dJ25_compareTo_2 q3150 sbl_java_lang_Integer (aw_or1 hc2_0) k) ?_
  replace h := ga_ck_some h; obtain ⟨hc5_1, h⟩ := h
  replace h := ga_bind_some h; obtain ⟨r5, D5, g5, h⟩ := h
  have hR5 := (h_J25_compareTo_2_ok (G := G) hP g5)
  obtain ⟨hP5, hE5, -⟩ := id hR5
  refine hw_call (rest := []) hR5 (fun hc hk9 => x_callV (as := [(2, x1)]) (rest := []) dJ25_compareTo_5 hc (lw_V q3844 q3845 q3846 q476 q3847) hc5_1 rfl rfl (show _ ∧ _ ∧ _ ∧ _ = some 1 from by decide +kernel) (by decide) (by decide) rfl (Nat.le_of_ble_eq_true rfl) hk9 aw_nox) ?_
  obtain ⟨rfl, rfl⟩ := ga_end h
  exact hw_ret hP5 (x_iret dJ25_compareTo_8 rfl rfl trivial hq)
theorem h_J30_compare_ok {G : aw_G} {D D' : ga_D} {r : Int} {x0 x2 : Int} (hP : h_P D) (h : h_J30_compare x0 x2 D = some (r, D')) : aw_HR yJ30_compare cJ30_compare 4 (some (.int)) 0 G [(1, x0), (1, x2)] D (some (0, r)) D' := by
  unfold h_J30_compare at h
  refine hw_body (own := "java/lang/Long") (ini := false) (ls := [(0, (1, x0)), (2, (1, x2))]) rfl rfl (fun h => by cases h) (Nat.le_of_ble_eq_true rfl) rfl fun Q hq => ?_
  refine hw_1 (fun k => x_lload_n dJ30_compare_0 rfl k) ?_
  refine hw_1 (fun k => x_lload_n dJ30_compare_1 rfl k) ?_
  refine hw_1 (fun k => x_lcmp dJ30_compare_2 rfl k) ?_
  by_cases c3 : x2 ≤ x0
  · rw [if_pos c3] at h
    refine hw_1 (fun k => x_if_ge (tgt := 10) dJ30_compare_3 (by decide) (fun _ => k) (fun z => absurd (cmi_ge.mpr c3) z)) ?_
    refine hw_1 (fun k => x_lload_n dJ30_compare_10 rfl k) ?_
    refine hw_1 (fun k => x_lload_n dJ30_compare_11 rfl k) ?_
    refine hw_1 (fun k => x_lcmp dJ30_compare_12 rfl k) ?_
    by_cases c13 : x0 ≠ x2
    · rw [if_pos c13] at h
      refine hw_1 (fun k => x_if_ne (tgt := 20) dJ30_compare_13 (by decide) (fun _ => k) (fun z => absurd (cmi_ne.mpr c13) z)) ?_
      refine hw_1 (fun k => x_iconst dJ30_compare_20 (by decide) k) ?_
      obtain ⟨rfl, rfl⟩ := ga_end h
      exact hw_ret hP (x_iret dJ30_compare_21 rfl rfl trivial hq)
    · rw [if_neg c13] at h
      refine hw_1 (fun k => x_if_ne (tgt := 20) dJ30_compare_13 (by decide) (fun z => absurd (cmi_ne.mp z) c13) (fun _ => k)) ?_
      refine hw_1 (fun k => x_iconst dJ30_compare_16 (by decide) k) ?_
      refine hw_1 (fun k => x_goto (tgt := 21) dJ30_compare_17 (by decide) k) ?_
      obtain ⟨rfl, rfl⟩ := ga_end h
      exact hw_ret hP (x_iret dJ30_compare_21 rfl rfl trivial hq)
  · rw [if_neg c3] at h
    refine hw_1 (fun k => x_if_ge (tgt := 10) dJ30_compare_3 (by decide) (fun z => absurd (cmi_ge.mp z) c3) (fun _ => k)) ?_
    refine hw_1 (fun k => x_iconst dJ30_compare_6 (by decide) k) ?_
    refine hw_1 (fun k => x_goto (tgt := 21) dJ30_compare_7 (by decide) k) ?_
    obtain ⟨rfl, rfl⟩ := ga_end h
    exact hw_ret hP (x_iret dJ30_compare_21 rfl rfl trivial hq)
theorem h_J30_compareTo_2_ok {G : aw_G} {D D' : ga_D} {r : Int} {x0 x1 : Int} (hP : h_P D) (h : h_J30_compareTo_2 x0 x1 D = some (r, D')) : aw_HR yJ30_compareTo_2 cJ30_compareTo_2 2 (some (.int)) 1 G [(2, x0), (2, x1)] D (some (0, r)) D' := by
  unfold h_J30_compareTo_2 at h
  refine hw_body (own := "java/lang/Long") (ini := false) (ls := [(0, (2, x0)), (1, (2, x1))]) rfl rfl (fun h => by cases h) (Nat.le_of_ble_eq_true rfl) rfl fun Q hq => ?_
  refine hw_1 (fun k => x_aload_n dJ30_compareTo_2_0 rfl k) ?_
  replace h := ga_ck_some h; obtain ⟨hc1_0, h⟩ := h
  refine hw_1 (fun k => x_getf (v := D x0 0) dJ30_compareTo_2_1 fl_J30_273 hc1_0 rfl k) ?_
  refine hw_1 (fun k => x_aload_n dJ30_compareTo_2_4 rfl k) ?_
  replace h := ga_ck_some h; obtain ⟨hc5_1, h⟩ := h
  refine hw_1 (fun k => x_getf (v := D x1 0) dJ30_compareTo_2_5 fl_J30_273 hc5_1 rfl k) ?_
  replace h := ga_bind_some h; obtain ⟨r8, D8, g8, h⟩ := h
  have hR8 := (h_J30_compare_ok (G := G) hP g8)
  obtain ⟨hP8, hE8, -⟩ := id hR8
  refine hw_call (rest := []) hR8 (fun hc hk9 => x_callS (as := [(1, D x0 0), (1, D x1 0)]) (rest := []) dJ30_compareTo_2_8 hc (lw_S q3861 q3862 q485 q3863) (show _ ∧ _ ∧ _ = some 2 from by decide +kernel) (by decide) (by decide) rfl (Nat.le_of_ble_eq_true rfl) hk9 aw_nox) ?_
  obtain ⟨rfl, rfl⟩ := ga_end h
  exact hw_ret hP8 (x_iret dJ30_compareTo_2_11 rfl rfl trivial hq)
theorem h_J30_compareTo_ok {G : aw_G} {D D' : ga_D} {r : Int} {x0 x1 : Int} (hP : h_P D) (h : h_J30_compareTo x0 x1 D = some (r, D')) : aw_HR yJ30_compareTo cJ30_compareTo 2 (some (.int)) 2 G [(2, x0), (2, x1)] D (some (0, r)) D' := by
  unfold h_J30_compareTo at h
  refine hw_body (own := "java/lang/Long") (ini := false) (ls := [(0, (2, x0)), (1, (2, x1))]) rfl rfl (fun h => by cases h) (Nat.le_of_ble_eq_true rfl) rfl fun Q hq => ?_
  refine hw_1 (fun k => x_aload_n dJ30_compareTo_0 rfl k) ?_
  refine hw_1 (fun k => x_aload_n dJ30_compareTo_1 rfl k) ?_
  replace h := ga_ck_some h; obtain ⟨hc2_0, h⟩ := h
  refine hw_1 (fun k => x_castL (L := [73]) dJ30_compareTo_2 q3158 sbl_java_lang_Long (aw_or1 hc2_0) k) ?_
  replace h := ga_ck_some h; obtain ⟨hc5_1, h⟩ := h
  replace h := ga_bind_some h; obtain ⟨r5, D5, g5, h⟩ := h
  have hR5 := (h_J30_compareTo_2_ok (G := G) hP g5)
  obtain ⟨hP5, hE5, -⟩ := id hR5
  refine hw_call (rest := []) hR5 (fun hc hk9 => x_callV (as := [(2, x1)]) (rest := []) dJ30_compareTo_5 hc (lw_V q3857 q3858 q3859 q485 q3860) hc5_1 rfl rfl (show _ ∧ _ ∧ _ ∧ _ = some 1 from by decide +kernel) (by decide) (by decide) rfl (Nat.le_of_ble_eq_true rfl) hk9 aw_nox) ?_
  obtain ⟨rfl, rfl⟩ := ga_end h
  exact hw_ret hP5 (x_iret dJ30_compareTo_8 rfl rfl trivial hq)
theorem h_J10_resize_j301_ok {G : aw_G} {M0 : aw_M} {D' : ga_D} {Q : Option aw_V → aw_M → Prop} {r : Int} (hq : Q (some (2, r)) (hM D')) {k309 : Int → Int → Int → Int → Int → Int → Int → Int → Int → Int → ga_D → ga_S} {k235 : Int → Int → Int → Int → Int → Int → Int → Int → Int → Int → Int → ga_D → ga_S} (hk309 : ∀ (x0 x1 x2 x4 x6 x7 x9 x10 x11 x12 : Int) (D : ga_D), h_P D → k309 x0 x1 x2 x4 x6 x7 x9 x10 x11 x12 D = some (r, D') → aw_HW G "java/util/HashMap" cJ10_resize (some (.array (.object "java/util/HashMap$Node"))) 14 0 false M0 Q aw_no D' (hn D') (hsl D') 309 [(0, (2, x0)), (1, (2, x1)), (2, (0, x2)), (4, (0, x4)), (6, (2, x6)), (7, (0, x7)), (9, (2, x9)), (10, (2, x10)), (11, (2, x11)), (12, (2, x12))] [] D) (hk235 : ∀ (x0 x1 x2 x4 x6 x7 x8 x9 x10 x11 x12 : Int) (D : ga_D), h_P D → k235 x0 x1 x2 x4 x6 x7 x8 x9 x10 x11 x12 D = some (r, D') → aw_HW G "java/util/HashMap" cJ10_resize (some (.array (.object "java/util/HashMap$Node"))) 14 0 false M0 Q aw_no D' (hn D') (hsl D') 235 [(0, (2, x0)), (1, (2, x1)), (2, (0, x2)), (4, (0, x4)), (6, (2, x6)), (7, (0, x7)), (8, (2, x8)), (9, (2, x9)), (10, (2, x10)), (11, (2, x11)), (12, (2, x12))] [] D) {x0 x1 x2 x4 x6 x7 x9 x10 x11 x12 x13 : Int} {D : ga_D} (hP : h_P D) (h : h_J10_resize_j301 x0 x1 x2 x4 x6 x7 x9 x10 x11 x12 x13 D k309 k235 = some (r, D')) : aw_HW G "java/util/HashMap" cJ10_resize (some (.array (.object "java/util/HashMap$Node"))) 14 0 false M0 Q aw_no D' (hn D') (hsl D') 301 [(0, (2, x0)), (1, (2, x1)), (2, (0, x2)), (4, (0, x4)), (6, (2, x6)), (7, (0, x7)), (9, (2, x9)), (10, (2, x10)), (11, (2, x11)), (12, (2, x12)), (13, (2, x13))] [] D := by
  unfold h_J10_resize_j301 at h
  refine hw_1 (fun k => x_aload dJ10_resize_301 rfl k) ?_
  refine hw_1 (fun k => x_dup dJ10_resize_303 rfl k) ?_
  refine hw_1 (fun k => x_astore (ls' := [(8, (2, x13)), (0, (2, x0)), (1, (2, x1)), (2, (0, x2)), (4, (0, x4)), (6, (2, x6)), (7, (0, x7)), (9, (2, x9)), (10, (2, x10)), (11, (2, x11)), (12, (2, x12)), (13, (2, x13))]) dJ10_resize_304 (by decide) rfl k) ?_
  by_cases c306 : x13 ≠ 0
  · rw [if_pos c306] at h
    refine hw_1 (fun k => x_ifnonnull (tgt := 235) dJ10_resize_306 (by decide) (fun _ => k) (fun z => absurd c306 z)) ?_
    refine hw_locs [1, 2, 3, 4, 5, 6, 0, 7, 8, 9, 10] (ls' := [(0, (2, x0)), (1, (2, x1)), (2, (0, x2)), (4, (0, x4)), (6, (2, x6)), (7, (0, x7)), (8, (2, x13)), (9, (2, x9)), (10, (2, x10)), (11, (2, x11)), (12, (2, x12))]) rfl ?_
    exact hk235 _ _ _ _ _ _ _ _ _ _ _ _ hP h
  · rw [if_neg c306] at h
    refine hw_1 (fun k => x_ifnonnull (tgt := 235) dJ10_resize_306 (by decide) (fun z => absurd z c306) (fun _ => k)) ?_
    refine hw_locs [1, 2, 3, 4, 5, 6, 7, 8, 9, 10] (ls' := [(0, (2, x0)), (1, (2, x1)), (2, (0, x2)), (4, (0, x4)), (6, (2, x6)), (7, (0, x7)), (9, (2, x9)), (10, (2, x10)), (11, (2, x11)), (12, (2, x12))]) rfl ?_
    exact hk309 _ _ _ _ _ _ _ _ _ _ _ hP h
theorem h_J10_resize_j297_ok {G : aw_G} {M0 : aw_M} {D' : ga_D} {Q : Option aw_V → aw_M → Prop} {r : Int} (hq : Q (some (2, r)) (hM D')) {k309 : Int → Int → Int → Int → Int → Int → Int → Int → Int → Int → ga_D → ga_S} {k235 : Int → Int → Int → Int → Int → Int → Int → Int → Int → Int → Int → ga_D → ga_S} (hk309 : ∀ (x0 x1 x2 x4 x6 x7 x9 x10 x11 x12 : Int) (D : ga_D), h_P D → k309 x0 x1 x2 x4 x6 x7 x9 x10 x11 x12 D = some (r, D') → aw_HW G "java/util/HashMap" cJ10_resize (some (.array (.object "java/util/HashMap$Node"))) 14 0 false M0 Q aw_no D' (hn D') (hsl D') 309 [(0, (2, x0)), (1, (2, x1)), (2, (0, x2)), (4, (0, x4)), (6, (2, x6)), (7, (0, x7)), (9, (2, x9)), (10, (2, x10)), (11, (2, x11)), (12, (2, x12))] [] D) (hk235 : ∀ (x0 x1 x2 x4 x6 x7 x8 x9 x10 x11 x12 : Int) (D : ga_D), h_P D → k235 x0 x1 x2 x4 x6 x7 x8 x9 x10 x11 x12 D = some (r, D') → aw_HW G "java/util/HashMap" cJ10_resize (some (.array (.object "java/util/HashMap$Node"))) 14 0 false M0 Q aw_no D' (hn D') (hsl D') 235 [(0, (2, x0)), (1, (2, x1)), (2, (0, x2)), (4, (0, x4)), (6, (2, x6)), (7, (0, x7)), (8, (2, x8)), (9, (2, x9)), (10, (2, x10)), (11, (2, x11)), (12, (2, x12))] [] D) {x0 x1 x2 x4 x6 x7 x8 x9 x10 x11 x13 : Int} {D : ga_D} (hP : h_P D) (h : h_J10_resize_j297 x0 x1 x2 x4 x6 x7 x8 x9 x10 x11 x13 D k309 k235 = some (r, D')) : aw_HW G "java/util/HashMap" cJ10_resize (some (.array (.object "java/util/HashMap$Node"))) 14 0 false M0 Q aw_no D' (hn D') (hsl D') 297 [(0, (2, x0)), (1, (2, x1)), (2, (0, x2)), (4, (0, x4)), (6, (2, x6)), (7, (0, x7)), (8, (2, x8)), (9, (2, x9)), (10, (2, x10)), (11, (2, x11)), (13, (2, x13))] [] D := by
  unfold h_J10_resize_j297 at h
  refine hw_1 (fun k => x_aload dJ10_resize_297 rfl k) ?_
  refine hw_1 (fun k => x_astore (ls' := [(12, (2, x8)), (0, (2, x0)), (1, (2, x1)), (2, (0, x2)), (4, (0, x4)), (6, (2, x6)), (7, (0, x7)), (8, (2, x8)), (9, (2, x9)), (10, (2, x10)), (11, (2, x11)), (13, (2, x13))]) dJ10_resize_299 (by decide) rfl k) ?_
  refine hw_locs [1, 2, 3, 4, 5, 6, 8, 9, 10, 0, 11] (ls' := [(0, (2, x0)), (1, (2, x1)), (2, (0, x2)), (4, (0, x4)), (6, (2, x6)), (7, (0, x7)), (9, (2, x9)), (10, (2, x10)), (11, (2, x11)), (12, (2, x8)), (13, (2, x13))]) rfl ?_
  refine h_J10_resize_j301_ok hq (fun x0 x1 x2 x4 x6 x7 x9 x10 x11 x12 D309 hP h => ?_) (fun x0 x1 x2 x4 x6 x7 x8 x9 x10 x11 x12 D235 hP h => ?_) hP h
  · exact hk309 _ _ _ _ _ _ _ _ _ _ _ hP h
  · exact hk235 _ _ _ _ _ _ _ _ _ _ _ _ hP h
theorem h_J10_resize_j271_ok {G : aw_G} {M0 : aw_M} {D' : ga_D} {Q : Option aw_V → aw_M → Prop} {r : Int} (hq : Q (some (2, r)) (hM D')) {k309 : Int → Int → Int → Int → Int → Int → Int → Int → Int → Int → ga_D → ga_S} {k235 : Int → Int → Int → Int → Int → Int → Int → Int → Int → Int → Int → ga_D → ga_S} (hk309 : ∀ (x0 x1 x2 x4 x6 x7 x9 x10 x11 x12 : Int) (D : ga_D), h_P D → k309 x0 x1 x2 x4 x6 x7 x9 x10 x11 x12 D = some (r, D') → aw_HW G "java/util/HashMap" cJ10_resize (some (.array (.object "java/util/HashMap$Node"))) 14 0 false M0 Q aw_no D' (hn D') (hsl D') 309 [(0, (2, x0)), (1, (2, x1)), (2, (0, x2)), (4, (0, x4)), (6, (2, x6)), (7, (0, x7)), (9, (2, x9)), (10, (2, x10)), (11, (2, x11)), (12, (2, x12))] [] D) (hk235 : ∀ (x0 x1 x2 x4 x6 x7 x8 x9 x10 x11 x12 : Int) (D : ga_D), h_P D → k235 x0 x1 x2 x4 x6 x7 x8 x9 x10 x11 x12 D = some (r, D') → aw_HW G "java/util/HashMap" cJ10_resize (some (.array (.object "java/util/HashMap$Node"))) 14 0 false M0 Q aw_no D' (hn D') (hsl D') 235 [(0, (2, x0)), (1, (2, x1)), (2, (0, x2)), (4, (0, x4)), (6, (2, x6)), (7, (0, x7)), (8, (2, x8)), (9, (2, x9)), (10, (2, x10)), (11, (2, x11)), (12, (2, x12))] [] D) {x0 x1 x2 x4 x6 x7 x8 x9 x11 x12 x13 : Int} {D : ga_D} (hP : h_P D) (h : h_J10_resize_j271 x0 x1 x2 x4 x6 x7 x8 x9 x11 x12 x13 D k309 k235 = some (r, D')) : aw_HW G "java/util/HashMap" cJ10_resize (some (.array (.object "java/util/HashMap$Node"))) 14 0 false M0 Q aw_no D' (hn D') (hsl D') 271 [(0, (2, x0)), (1, (2, x1)), (2, (0, x2)), (4, (0, x4)), (6, (2, x6)), (7, (0, x7)), (8, (2, x8)), (9, (2, x9)), (11, (2, x11)), (12, (2, x12)), (13, (2, x13))] [] D := by
  unfold h_J10_resize_j271 at h
  refine hw_1 (fun k => x_aload dJ10_resize_271 rfl k) ?_
  refine hw_1 (fun k => x_astore (ls' := [(10, (2, x8)), (0, (2, x0)), (1, (2, x1)), (2, (0, x2)), (4, (0, x4)), (6, (2, x6)), (7, (0, x7)), (8, (2, x8)), (9, (2, x9)), (11, (2, x11)), (12, (2, x12)), (13, (2, x13))]) dJ10_resize_273 (by decide) rfl k) ?_
  refine hw_1 (fun k => x_goto (tgt := 301) dJ10_resize_275 (by decide) k) ?_
  refine hw_locs [1, 2, 3, 4, 5, 6, 8, 0, 9, 10, 11] (ls' := [(0, (2, x0)), (1, (2, x1)), (2, (0, x2)), (4, (0, x4)), (6, (2, x6)), (7, (0, x7)), (9, (2, x9)), (10, (2, x8)), (11, (2, x11)), (12, (2, x12)), (13, (2, x13))]) rfl ?_
  refine h_J10_resize_j301_ok hq (fun x0 x1 x2 x4 x6 x7 x9 x10 x11 x12 D309 hP h => ?_) (fun x0 x1 x2 x4 x6 x7 x8 x9 x10 x11 x12 D235 hP h => ?_) hP h
  · exact hk309 _ _ _ _ _ _ _ _ _ _ _ hP h
  · exact hk235 _ _ _ _ _ _ _ _ _ _ _ _ hP h
theorem h_J10_resize_l235_ok {G : aw_G} {M0 : aw_M} {D' : ga_D} {Q : Option aw_V → aw_M → Prop} {r : Int} (hq : Q (some (2, r)) (hM D')) {k309 : Int → Int → Int → Int → Int → Int → Int → Int → Int → Int → ga_D → ga_S} (hk309 : ∀ (x0 x1 x2 x4 x6 x7 x9 x10 x11 x12 : Int) (D : ga_D), h_P D → k309 x0 x1 x2 x4 x6 x7 x9 x10 x11 x12 D = some (r, D') → aw_HW G "java/util/HashMap" cJ10_resize (some (.array (.object "java/util/HashMap$Node"))) 14 0 false M0 Q aw_no D' (hn D') (hsl D') 309 [(0, (2, x0)), (1, (2, x1)), (2, (0, x2)), (4, (0, x4)), (6, (2, x6)), (7, (0, x7)), (9, (2, x9)), (10, (2, x10)), (11, (2, x11)), (12, (2, x12))] [] D) : ∀ {n : Nat} {x0 x1 x2 x4 x6 x7 x8 x9 x10 x11 x12 : Int} {D : ga_D}, h_P D → h_J10_resize_l235 n x0 x1 x2 x4 x6 x7 x8 x9 x10 x11 x12 D k309 = some (r, D') → aw_HW G "java/util/HashMap" cJ10_resize (some (.array (.object "java/util/HashMap$Node"))) 14 0 false M0 Q aw_no D' (hn D') (hsl D') 235 [(0, (2, x0)), (1, (2, x1)), (2, (0, x2)), (4, (0, x4)), (6, (2, x6)), (7, (0, x7)), (8, (2, x8)), (9, (2, x9)), (10, (2, x10)), (11, (2, x11)), (12, (2, x12))] [] D := by
  intro n
  induction n with
  | zero => intro x0 x1 x2 x4 x6 x7 x8 x9 x10 x11 x12 D hP h; exact absurd (h : (none : ga_S) = some (r, D')) (by intro h; cases h)
  | succ n ih =>
    intro x0 x1 x2 x4 x6 x7 x8 x9 x10 x11 x12 D hP h
    have ih : ∀ (x0 x1 x2 x4 x6 x7 x8 x9 x10 x11 x12 : Int) (D : ga_D), h_P D → h_J10_resize_l235 n x0 x1 x2 x4 x6 x7 x8 x9 x10 x11 x12 D k309 = some (r, D') → aw_HW G "java/util/HashMap" cJ10_resize (some (.array (.object "java/util/HashMap$Node"))) 14 0 false M0 Q aw_no D' (hn D') (hsl D') 235 [(0, (2, x0)), (1, (2, x1)), (2, (0, x2)), (4, (0, x4)), (6, (2, x6)), (7, (0, x7)), (8, (2, x8)), (9, (2, x9)), (10, (2, x10)), (11, (2, x11)), (12, (2, x12))] [] D := fun x0 x1 x2 x4 x6 x7 x8 x9 x10 x11 x12 D hP h => ih hP h
    replace h : (ga_ck (hk D x8 = (74, 0)) (ga_let (D x8 3) (fun v240 => if aw_and (D x8 0) x2 ≠ 0 then (if x12 ≠ 0 then (ga_ck (hk D x12 = (74, 0)) (ga_let (ga_set D x12 3 x8) (fun D294 => h_J10_resize_j297 x0 x1 x2 x4 x6 x7 x8 x9 x10 x11 v240 D294 (fun x0 x1 x2 x4 x6 x7 x9 x10 x11 x12 D309 => k309 x0 x1 x2 x4 x6 x7 x9 x10 x11 x12 D309) (fun x0 x1 x2 x4 x6 x7 x8 x9 x10 x11 x12 D235 => h_J10_resize_l235 n x0 x1 x2 x4 x6 x7 x8 x9 x10 x11 x12 D235 k309)))) else (h_J10_resize_j297 x0 x1 x2 x4 x6 x7 x8 x9 x10 x8 v240 D (fun x0 x1 x2 x4 x6 x7 x9 x10 x11 x12 D309 => k309 x0 x1 x2 x4 x6 x7 x9 x10 x11 x12 D309) (fun x0 x1 x2 x4 x6 x7 x8 x9 x10 x11 x12 D235 => h_J10_resize_l235 n x0 x1 x2 x4 x6 x7 x8 x9 x10 x11 x12 D235 k309))) else (if x10 ≠ 0 then (ga_ck (hk D x10 = (74, 0)) (ga_let (ga_set D x10 3 x8) (fun D268 => h_J10_resize_j271 x0 x1 x2 x4 x6 x7 x8 x9 x11 x12 v240 D268 (fun x0 x1 x2 x4 x6 x7 x9 x10 x11 x12 D309 => k309 x0 x1 x2 x4 x6 x7 x9 x10 x11 x12 D309) (fun x0 x1 x2 x4 x6 x7 x8 x9 x10 x11 x12 D235 => h_J10_resize_l235 n x0 x1 x2 x4 x6 x7 x8 x9 x10 x11 x12 D235 k309)))) else (h_J10_resize_j271 x0 x1 x2 x4 x6 x7 x8 x8 x11 x12 v240 D (fun x0 x1 x2 x4 x6 x7 x9 x10 x11 x12 D309 => k309 x0 x1 x2 x4 x6 x7 x9 x10 x11 x12 D309) (fun x0 x1 x2 x4 x6 x7 x8 x9 x10 x11 x12 D235 => h_J10_resize_l235 n x0 x1 x2 x4 x6 x7 x8 x9 x10 x11 x12 D235 k309))))) : ga_S) = some (r, D') := h
    refine hw_1 (fun k => x_aload dJ10_resize_235 rfl k) ?_
    replace h := ga_ck_some h; obtain ⟨hc237_0, h⟩ := h
    refine hw_1 (fun k => x_getf (v := D x8 3) dJ10_resize_237 fl_J10_177 hc237_0 rfl k) ?_
    replace h := ga_let_some h; obtain ⟨v240, ev240, h⟩ := h
    refine hw_nm ev240 ?_
    refine hw_1 (fun k => x_astore (ls' := [(13, (2, v240)), (0, (2, x0)), (1, (2, x1)), (2, (0, x2)), (4, (0, x4)), (6, (2, x6)), (7, (0, x7)), (8, (2, x8)), (9, (2, x9)), (10, (2, x10)), (11, (2, x11)), (12, (2, x12))]) dJ10_resize_240 (by decide) rfl k) ?_
    refine hw_1 (fun k => x_aload dJ10_resize_242 rfl k) ?_
    refine hw_1 (fun k => x_getf (v := D x8 0) dJ10_resize_244 fl_J10_168 hc237_0 rfl k) ?_
    refine hw_1 (fun k => x_iload_n dJ10_resize_247 rfl k) ?_
    refine hw_1 (fun k => x_iand dJ10_resize_248 rfl k) ?_
    by_cases c249 : aw_and (D x8 0) x2 ≠ 0
    · rw [if_pos c249] at h
      refine hw_1 (fun k => x_if_ne (tgt := 278) dJ10_resize_249 (by decide) (fun _ => k) (fun z => absurd c249 z)) ?_
      refine hw_1 (fun k => x_aload dJ10_resize_278 rfl k) ?_
      by_cases c280 : x12 ≠ 0
      · rw [if_pos c280] at h
        refine hw_1 (fun k => x_ifnonnull (tgt := 290) dJ10_resize_280 (by decide) (fun _ => k) (fun z => absurd c280 z)) ?_
        refine hw_1 (fun k => x_aload dJ10_resize_290 rfl k) ?_
        refine hw_1 (fun k => x_aload dJ10_resize_292 rfl k) ?_
        replace h := ga_ck_some h; obtain ⟨hc294_0, h⟩ := h
        replace h := ga_let_some h; obtain ⟨D294, eD294, h⟩ := h
        refine hw_set eD294 (Int.le_trans (by decide) (hkge_74 hc294_0)) (by decide) (fun k => x_putf dJ10_resize_294 fl_J10_177 rfl hc294_0 (hkge_74 hc294_0) trivial k) ?_
        have hP294 : h_P D294 := hP.set eD294 (hkge_74 hc294_0) (by decide) (hPn hc294_0 rfl)
        have hE294 : h_E D D294 := h_E_set eD294 (by decide)
        refine hw_locs [1, 2, 3, 4, 5, 6, 7, 8, 9, 10, 0] (ls' := [(0, (2, x0)), (1, (2, x1)), (2, (0, x2)), (4, (0, x4)), (6, (2, x6)), (7, (0, x7)), (8, (2, x8)), (9, (2, x9)), (10, (2, x10)), (11, (2, x11)), (13, (2, v240))]) rfl ?_
        refine h_J10_resize_j297_ok hq (fun x0 x1 x2 x4 x6 x7 x9 x10 x11 x12 D309 hP h => ?_) (fun x0 x1 x2 x4 x6 x7 x8 x9 x10 x11 x12 D235 hP h => ?_) hP294 h
        · exact hk309 _ _ _ _ _ _ _ _ _ _ _ hP h
        · exact ih _ _ _ _ _ _ _ _ _ _ _ _ hP h
      · rw [if_neg c280] at h
        refine hw_1 (fun k => x_ifnonnull (tgt := 290) dJ10_resize_280 (by decide) (fun z => absurd z c280) (fun _ => k)) ?_
        refine hw_1 (fun k => x_aload dJ10_resize_283 rfl k) ?_
        refine hw_1 (fun k => x_astore (ls' := [(11, (2, x8)), (13, (2, v240)), (0, (2, x0)), (1, (2, x1)), (2, (0, x2)), (4, (0, x4)), (6, (2, x6)), (7, (0, x7)), (8, (2, x8)), (9, (2, x9)), (10, (2, x10)), (12, (2, x12))]) dJ10_resize_285 (by decide) rfl k) ?_
        refine hw_1 (fun k => x_goto (tgt := 297) dJ10_resize_287 (by decide) k) ?_
        refine hw_locs [2, 3, 4, 5, 6, 7, 8, 9, 10, 0, 1] (ls' := [(0, (2, x0)), (1, (2, x1)), (2, (0, x2)), (4, (0, x4)), (6, (2, x6)), (7, (0, x7)), (8, (2, x8)), (9, (2, x9)), (10, (2, x10)), (11, (2, x8)), (13, (2, v240))]) rfl ?_
        refine h_J10_resize_j297_ok hq (fun x0 x1 x2 x4 x6 x7 x9 x10 x11 x12 D309 hP h => ?_) (fun x0 x1 x2 x4 x6 x7 x8 x9 x10 x11 x12 D235 hP h => ?_) hP h
        · exact hk309 _ _ _ _ _ _ _ _ _ _ _ hP h
        · exact ih _ _ _ _ _ _ _ _ _ _ _ _ hP h
    · rw [if_neg c249] at h
      refine hw_1 (fun k => x_if_ne (tgt := 278) dJ10_resize_249 (by decide) (fun z => absurd z c249) (fun _ => k)) ?_
      refine hw_1 (fun k => x_aload dJ10_resize_252 rfl k) ?_
      by_cases c254 : x10 ≠ 0
      · rw [if_pos c254] at h
        refine hw_1 (fun k => x_ifnonnull (tgt := 264) dJ10_resize_254 (by decide) (fun _ => k) (fun z => absurd c254 z)) ?_
        refine hw_1 (fun k => x_aload dJ10_resize_264 rfl k) ?_
        refine hw_1 (fun k => x_aload dJ10_resize_266 rfl k) ?_
        replace h := ga_ck_some h; obtain ⟨hc268_0, h⟩ := h
        replace h := ga_let_some h; obtain ⟨D268, eD268, h⟩ := h
        refine hw_set eD268 (Int.le_trans (by decide) (hkge_74 hc268_0)) (by decide) (fun k => x_putf dJ10_resize_268 fl_J10_177 rfl hc268_0 (hkge_74 hc268_0) trivial k) ?_
        have hP268 : h_P D268 := hP.set eD268 (hkge_74 hc268_0) (by decide) (hPn hc268_0 rfl)
        have hE268 : h_E D D268 := h_E_set eD268 (by decide)
        refine hw_locs [1, 2, 3, 4, 5, 6, 7, 8, 10, 11, 0] (ls' := [(0, (2, x0)), (1, (2, x1)), (2, (0, x2)), (4, (0, x4)), (6, (2, x6)), (7, (0, x7)), (8, (2, x8)), (9, (2, x9)), (11, (2, x11)), (12, (2, x12)), (13, (2, v240))]) rfl ?_
        refine h_J10_resize_j271_ok hq (fun x0 x1 x2 x4 x6 x7 x9 x10 x11 x12 D309 hP h => ?_) (fun x0 x1 x2 x4 x6 x7 x8 x9 x10 x11 x12 D235 hP h => ?_) hP268 h
        · exact hk309 _ _ _ _ _ _ _ _ _ _ _ hP h
        · exact ih _ _ _ _ _ _ _ _ _ _ _ _ hP h
      · rw [if_neg c254] at h
        refine hw_1 (fun k => x_ifnonnull (tgt := 264) dJ10_resize_254 (by decide) (fun z => absurd z c254) (fun _ => k)) ?_
        refine hw_1 (fun k => x_aload dJ10_resize_257 rfl k) ?_
        refine hw_1 (fun k => x_astore (ls' := [(9, (2, x8)), (13, (2, v240)), (0, (2, x0)), (1, (2, x1)), (2, (0, x2)), (4, (0, x4)), (6, (2, x6)), (7, (0, x7)), (8, (2, x8)), (10, (2, x10)), (11, (2, x11)), (12, (2, x12))]) dJ10_resize_259 (by decide) rfl k) ?_
        refine hw_1 (fun k => x_goto (tgt := 271) dJ10_resize_261 (by decide) k) ?_
        refine hw_locs [2, 3, 4, 5, 6, 7, 8, 0, 10, 11, 1] (ls' := [(0, (2, x0)), (1, (2, x1)), (2, (0, x2)), (4, (0, x4)), (6, (2, x6)), (7, (0, x7)), (8, (2, x8)), (9, (2, x8)), (11, (2, x11)), (12, (2, x12)), (13, (2, v240))]) rfl ?_
        refine h_J10_resize_j271_ok hq (fun x0 x1 x2 x4 x6 x7 x9 x10 x11 x12 D309 hP h => ?_) (fun x0 x1 x2 x4 x6 x7 x8 x9 x10 x11 x12 D235 hP h => ?_) hP h
        · exact hk309 _ _ _ _ _ _ _ _ _ _ _ hP h
        · exact ih _ _ _ _ _ _ _ _ _ _ _ _ hP h
theorem h_J10_resize_j327_ok {G : aw_G} {M0 : aw_M} {D' : ga_D} {Q : Option aw_V → aw_M → Prop} {r : Int} (hq : Q (some (2, r)) (hM D')) {k151 : Int → Int → Int → Int → Int → Int → ga_D → ga_S} (hk151 : ∀ (x0 x1 x2 x4 x6 x7 : Int) (D : ga_D), h_P D → k151 x0 x1 x2 x4 x6 x7 D = some (r, D') → aw_HW G "java/util/HashMap" cJ10_resize (some (.array (.object "java/util/HashMap$Node"))) 14 0 false M0 Q aw_no D' (hn D') (hsl D') 151 [(0, (2, x0)), (1, (2, x1)), (2, (0, x2)), (4, (0, x4)), (6, (2, x6)), (7, (0, x7))] [] D) {x0 x1 x2 x4 x6 x7 x11 x12 : Int} {D : ga_D} (hP : h_P D) (h : h_J10_resize_j327 x0 x1 x2 x4 x6 x7 x11 x12 D k151 = some (r, D')) : aw_HW G "java/util/HashMap" cJ10_resize (some (.array (.object "java/util/HashMap$Node"))) 14 0 false M0 Q aw_no D' (hn D') (hsl D') 327 [(0, (2, x0)), (1, (2, x1)), (2, (0, x2)), (4, (0, x4)), (6, (2, x6)), (7, (0, x7)), (11, (2, x11)), (12, (2, x12))] [] D := by
  unfold h_J10_resize_j327 at h
  refine hw_1 (fun k => x_aload dJ10_resize_327 rfl k) ?_
  by_cases c329 : x12 = 0
  · rw [if_pos c329] at h
    refine hw_1 (fun k => x_ifnull (tgt := 347) dJ10_resize_329 (by decide) (fun _ => k) (fun z => absurd c329 z)) ?_
    replace h := ga_let_some h; obtain ⟨v347, ev347, h⟩ := h
    refine hw_1 (fun k => x_iinc (ls' := [(7, (0, v347)), (0, (2, x0)), (1, (2, x1)), (2, (0, x2)), (4, (0, x4)), (6, (2, x6)), (11, (2, x11)), (12, (2, x12))]) dJ10_resize_347 rfl ev347.symm (by decide) rfl k) ?_
    refine hw_1 (fun k => x_goto (tgt := 151) dJ10_resize_350 (by decide) k) ?_
    refine hw_locs [1, 2, 3, 4, 5, 0] (ls' := [(0, (2, x0)), (1, (2, x1)), (2, (0, x2)), (4, (0, x4)), (6, (2, x6)), (7, (0, v347))]) rfl ?_
    exact hk151 _ _ _ _ _ _ _ hP h
  · rw [if_neg c329] at h
    refine hw_1 (fun k => x_ifnull (tgt := 347) dJ10_resize_329 (by decide) (fun z => absurd z c329) (fun _ => k)) ?_
    refine hw_1 (fun k => x_aload dJ10_resize_332 rfl k) ?_
    refine hw_1 (fun k => x_null dJ10_resize_334 k) ?_
    replace h := ga_ck_some h; obtain ⟨hc335_0, h⟩ := h
    replace h := ga_let_some h; obtain ⟨D335, eD335, h⟩ := h
    refine hw_set eD335 (Int.le_trans (by decide) (hkge_74 hc335_0)) (by decide) (fun k => x_putf dJ10_resize_335 fl_J10_177 rfl hc335_0 (hkge_74 hc335_0) trivial k) ?_
    have hP335 : h_P D335 := hP.set eD335 (hkge_74 hc335_0) (by decide) (hPn hc335_0 rfl)
    have hE335 : h_E D D335 := h_E_set eD335 (by decide)
    refine hw_1 (fun k => x_aload dJ10_resize_338 rfl k) ?_
    refine hw_1 (fun k => x_iload dJ10_resize_340 rfl k) ?_
    refine hw_1 (fun k => x_iload_n dJ10_resize_342 rfl k) ?_
    refine hw_1 (fun k => x_iadd dJ10_resize_343 rfl k) ?_
    refine hw_1 (fun k => x_aload dJ10_resize_344 rfl k) ?_
    replace h := ga_ck_some h; obtain ⟨hc346_1, h⟩ := h
    replace h := ga_ck_some h; obtain ⟨hc346_2, h⟩ := h
    replace h := ga_ck_some h; obtain ⟨hc346_3, h⟩ := h
    replace h := ga_ck_some h; obtain ⟨hc346_4, h⟩ := h
    replace h := ga_let_some h; obtain ⟨D346, eD346, h⟩ := h
    refine hw_set eD346 (Int.le_trans (by decide) hc346_2) hc346_3.1 (fun k => x_aastL (t := 18) (L := [74, 75]) dJ10_resize_346 (hk_p hc346_1) rfl hc346_2 hc346_3.1 hc346_3.2 sbl_java_util_HashMap_Node (aw_or2 hc346_4) k) ?_
    have hP346 : h_P D346 := hP335.set eD346 hc346_2 hc346_3.1 (hPn (hk_p hc346_1) rfl)
    have hE346 : h_E D335 D346 := h_E_set eD346 hc346_3.1
    replace h := ga_let_some h; obtain ⟨v347, ev347, h⟩ := h
    refine hw_1 (fun k => x_iinc (ls' := [(7, (0, v347)), (0, (2, x0)), (1, (2, x1)), (2, (0, x2)), (4, (0, x4)), (6, (2, x6)), (11, (2, x11)), (12, (2, x12))]) dJ10_resize_347 rfl ev347.symm (by decide) rfl k) ?_
    refine hw_1 (fun k => x_goto (tgt := 151) dJ10_resize_350 (by decide) k) ?_
    refine hw_locs [1, 2, 3, 4, 5, 0] (ls' := [(0, (2, x0)), (1, (2, x1)), (2, (0, x2)), (4, (0, x4)), (6, (2, x6)), (7, (0, v347))]) rfl ?_
    exact hk151 _ _ _ _ _ _ _ hP346 h
theorem h_J10_resize_l151_ok {G : aw_G} {M0 : aw_M} {D' : ga_D} {Q : Option aw_V → aw_M → Prop} {r : Int} (hq : Q (some (2, r)) (hM D')) {k353 : Int → ga_D → ga_S} (hk353 : ∀ (x6 : Int) (D : ga_D), h_P D → k353 x6 D = some (r, D') → aw_HW G "java/util/HashMap" cJ10_resize (some (.array (.object "java/util/HashMap$Node"))) 14 0 false M0 Q aw_no D' (hn D') (hsl D') 353 [(6, (2, x6))] [] D) : ∀ {n : Nat} {x0 x1 x2 x4 x6 x7 : Int} {D : ga_D}, h_P D → h_J10_resize_l151 n x0 x1 x2 x4 x6 x7 D k353 = some (r, D') → aw_HW G "java/util/HashMap" cJ10_resize (some (.array (.object "java/util/HashMap$Node"))) 14 0 false M0 Q aw_no D' (hn D') (hsl D') 151 [(0, (2, x0)), (1, (2, x1)), (2, (0, x2)), (4, (0, x4)), (6, (2, x6)), (7, (0, x7))] [] D := by
  intro n
  induction n with
  | zero => intro x0 x1 x2 x4 x6 x7 D hP h; exact absurd (h : (none : ga_S) = some (r, D')) (by intro h; cases h)
  | succ n ih =>
    intro x0 x1 x2 x4 x6 x7 D hP h
    have ih : ∀ (x0 x1 x2 x4 x6 x7 : Int) (D : ga_D), h_P D → h_J10_resize_l151 n x0 x1 x2 x4 x6 x7 D k353 = some (r, D') → aw_HW G "java/util/HashMap" cJ10_resize (some (.array (.object "java/util/HashMap$Node"))) 14 0 false M0 Q aw_no D' (hn D') (hsl D') 151 [(0, (2, x0)), (1, (2, x1)), (2, (0, x2)), (4, (0, x4)), (6, (2, x6)), (7, (0, x7))] [] D := fun x0 x1 x2 x4 x6 x7 D hP h => ih hP h
    replace h : (if x2 ≤ x7 then (k353 x6 D) else (ga_ck ((hk D x1).1 = 1018) (ga_ck (0 ≤ x7 ∧ x7 < (hk D x1).2) (ga_let (D x1 x7) (fun v162 => if D x1 x7 = 0 then (ga_let (aw_w32 (x7 + 1)) (fun v347 => h_J10_resize_l151 n x0 x1 x2 x4 x6 v347 D k353)) else (ga_ck (4096 ≤ x1) (ga_ck (0 ≤ x7 ∧ x7 < (hk D x1).2) (ga_let (ga_set D x1 x7 0) (fun D171 => ga_ck (hk D171 v162 = (74, 0)) (if D171 v162 3 ≠ 0 then (h_J10_resize_l235 aw_fu x0 x1 x2 x4 x6 x7 v162 0 0 0 0 D171 (fun x0 x1 x2 x4 x6 x7 x9 x10 x11 x12 D309 => if x10 = 0 then (h_J10_resize_j327 x0 x1 x2 x4 x6 x7 x11 x12 D309 (fun x0 x1 x2 x4 x6 x7 D151 => h_J10_resize_l151 n x0 x1 x2 x4 x6 x7 D151 k353)) else (ga_ck (hk D309 x10 = (74, 0)) (ga_let (ga_set D309 x10 3 0) (fun D317 => ga_ck ((hk D317 x6).1 = 1018) (ga_ck (4096 ≤ x6) (ga_ck (0 ≤ x7 ∧ x7 < (hk D317 x6).2) (ga_ck (x9 = 0 ∨ hk D317 x9 = (74, 0) ∨ hk D317 x9 = (75, 0)) (ga_let (ga_set D317 x6 x7 x9) (fun D326 => h_J10_resize_j327 x0 x1 x2 x4 x6 x7 x11 x12 D326 (fun x0 x1 x2 x4 x6 x7 D151 => h_J10_resize_l151 n x0 x1 x2 x4 x6 x7 D151 k353))))))))))) else (ga_ck ((hk D171 x6).1 = 1018) (ga_ck (4096 ≤ x6) (ga_ck (0 ≤ aw_and (D171 v162 0) (aw_w32 (x4 - 1)) ∧ aw_and (D171 v162 0) (aw_w32 (x4 - 1)) < (hk D171 x6).2) (ga_let (ga_set D171 x6 (aw_and (D171 v162 0) (aw_w32 (x4 - 1))) v162) (fun D194 => ga_let (aw_w32 (x7 + 1)) (fun v347 => h_J10_resize_l151 n x0 x1 x2 x4 x6 v347 D194 k353))))))))))))))) : ga_S) = some (r, D') := h
    refine hw_1 (fun k => x_iload dJ10_resize_151 rfl k) ?_
    refine hw_1 (fun k => x_iload_n dJ10_resize_153 rfl k) ?_
    by_cases c154 : x2 ≤ x7
    · rw [if_pos c154] at h
      refine hw_1 (fun k => x_icmp_ge (tgt := 353) dJ10_resize_154 (by decide) (fun _ => k) (fun z => absurd c154 z)) ?_
      refine hw_locs [4] (ls' := [(6, (2, x6))]) rfl ?_
      exact hk353 _ _ hP h
    · rw [if_neg c154] at h
      refine hw_1 (fun k => x_icmp_ge (tgt := 353) dJ10_resize_154 (by decide) (fun z => absurd z c154) (fun _ => k)) ?_
      refine hw_1 (fun k => x_aload_n dJ10_resize_157 rfl k) ?_
      refine hw_1 (fun k => x_iload dJ10_resize_158 rfl k) ?_
      replace h := ga_ck_some h; obtain ⟨hc160_0, h⟩ := h
      replace h := ga_ck_some h; obtain ⟨hc160_1, h⟩ := h
      refine hw_1 (fun k => x_aald (t := 18) (v := D x1 x7) dJ10_resize_160 (hk_p hc160_0) rfl rfl hc160_1.1 hc160_1.2 rfl k) ?_
      refine hw_1 (fun k => x_dup dJ10_resize_161 rfl k) ?_
      replace h := ga_let_some h; obtain ⟨v162, ev162, h⟩ := h
      refine hw_nm ev162 ?_
      refine hw_1 (fun k => x_astore (ls' := [(8, (2, v162)), (0, (2, x0)), (1, (2, x1)), (2, (0, x2)), (4, (0, x4)), (6, (2, x6)), (7, (0, x7))]) dJ10_resize_162 (by decide) rfl k) ?_
      by_cases c164 : D x1 x7 = 0
      · rw [if_pos c164] at h
        refine hw_1 (fun k => x_ifnull (tgt := 347) dJ10_resize_164 (by decide) (fun _ => k) (fun z => absurd c164 z)) ?_
        replace h := ga_let_some h; obtain ⟨v347, ev347, h⟩ := h
        refine hw_1 (fun k => x_iinc (ls' := [(7, (0, v347)), (8, (2, v162)), (0, (2, x0)), (1, (2, x1)), (2, (0, x2)), (4, (0, x4)), (6, (2, x6))]) dJ10_resize_347 rfl ev347.symm (by decide) rfl k) ?_
        refine hw_1 (fun k => x_goto (tgt := 151) dJ10_resize_350 (by decide) k) ?_
        refine hw_locs [2, 3, 4, 5, 6, 0] (ls' := [(0, (2, x0)), (1, (2, x1)), (2, (0, x2)), (4, (0, x4)), (6, (2, x6)), (7, (0, v347))]) rfl ?_
        exact ih _ _ _ _ _ _ _ hP h
      · rw [if_neg c164] at h
        refine hw_1 (fun k => x_ifnull (tgt := 347) dJ10_resize_164 (by decide) (fun z => absurd z c164) (fun _ => k)) ?_
        refine hw_1 (fun k => x_aload_n dJ10_resize_167 rfl k) ?_
        refine hw_1 (fun k => x_iload dJ10_resize_168 rfl k) ?_
        refine hw_1 (fun k => x_null dJ10_resize_170 k) ?_
        replace h := ga_ck_some h; obtain ⟨hc171_0, h⟩ := h
        replace h := ga_ck_some h; obtain ⟨hc171_1, h⟩ := h
        replace h := ga_let_some h; obtain ⟨D171, eD171, h⟩ := h
        refine hw_set eD171 (Int.le_trans (by decide) hc171_0) hc171_1.1 (fun k => x_aastN (t := 18) dJ10_resize_171 (hk_p hc160_0) rfl hc171_0 hc171_1.1 hc171_1.2 rfl k) ?_
        have hP171 : h_P D171 := hP.set eD171 hc171_0 hc171_1.1 (hPn (hk_p hc160_0) rfl)
        have hE171 : h_E D D171 := h_E_set eD171 hc171_1.1
        refine hw_1 (fun k => x_aload dJ10_resize_172 rfl k) ?_
        replace h := ga_ck_some h; obtain ⟨hc174_2, h⟩ := h
        refine hw_1 (fun k => x_getf (v := D171 v162 3) dJ10_resize_174 fl_J10_177 hc174_2 rfl k) ?_
        by_cases c177 : D171 v162 3 ≠ 0
        · rw [if_pos c177] at h
          refine hw_1 (fun k => x_ifnonnull (tgt := 198) dJ10_resize_177 (by decide) (fun _ => k) (fun z => absurd c177 z)) ?_
          refine hw_1 (fun k => x_aload dJ10_resize_198 rfl k) ?_
          refine hw_1 (fun k => x_instNo (cN := 74) dJ10_resize_200 q3750 hc174_2 rfl (by decide +kernel) k) ?_
          refine hw_1 (fun k => x_if_eq (tgt := 223) dJ10_resize_203 (by decide) (fun _ => k) (fun z => absurd (show (0 : Int) = 0 from (by decide)) z)) ?_
          refine hw_1 (fun k => x_null dJ10_resize_223 k) ?_
          refine hw_1 (fun k => x_astore (ls' := [(9, (2, 0)), (8, (2, v162)), (0, (2, x0)), (1, (2, x1)), (2, (0, x2)), (4, (0, x4)), (6, (2, x6)), (7, (0, x7))]) dJ10_resize_224 (by decide) rfl k) ?_
          refine hw_1 (fun k => x_null dJ10_resize_226 k) ?_
          refine hw_1 (fun k => x_astore (ls' := [(10, (2, 0)), (9, (2, 0)), (8, (2, v162)), (0, (2, x0)), (1, (2, x1)), (2, (0, x2)), (4, (0, x4)), (6, (2, x6)), (7, (0, x7))]) dJ10_resize_227 (by decide) rfl k) ?_
          refine hw_1 (fun k => x_null dJ10_resize_229 k) ?_
          refine hw_1 (fun k => x_astore (ls' := [(11, (2, 0)), (10, (2, 0)), (9, (2, 0)), (8, (2, v162)), (0, (2, x0)), (1, (2, x1)), (2, (0, x2)), (4, (0, x4)), (6, (2, x6)), (7, (0, x7))]) dJ10_resize_230 (by decide) rfl k) ?_
          refine hw_1 (fun k => x_null dJ10_resize_232 k) ?_
          refine hw_1 (fun k => x_astore (ls' := [(12, (2, 0)), (11, (2, 0)), (10, (2, 0)), (9, (2, 0)), (8, (2, v162)), (0, (2, x0)), (1, (2, x1)), (2, (0, x2)), (4, (0, x4)), (6, (2, x6)), (7, (0, x7))]) dJ10_resize_233 (by decide) rfl k) ?_
          refine hw_locs [5, 6, 7, 8, 9, 10, 4, 3, 2, 1, 0] (ls' := [(0, (2, x0)), (1, (2, x1)), (2, (0, x2)), (4, (0, x4)), (6, (2, x6)), (7, (0, x7)), (8, (2, v162)), (9, (2, 0)), (10, (2, 0)), (11, (2, 0)), (12, (2, 0))]) rfl ?_
          refine h_J10_resize_l235_ok hq (fun x0 x1 x2 x4 x6 x7 x9 x10 x11 x12 D309 hP h => ?_) hP171 h
          · refine hw_1 (fun k => x_aload dJ10_resize_309 rfl k) ?_
            by_cases c311 : x10 = 0
            · rw [if_pos c311] at h
              refine hw_1 (fun k => x_ifnull (tgt := 327) dJ10_resize_311 (by decide) (fun _ => k) (fun z => absurd c311 z)) ?_
              refine hw_locs [0, 1, 2, 3, 4, 5, 8, 9] (ls' := [(0, (2, x0)), (1, (2, x1)), (2, (0, x2)), (4, (0, x4)), (6, (2, x6)), (7, (0, x7)), (11, (2, x11)), (12, (2, x12))]) rfl ?_
              refine h_J10_resize_j327_ok hq (fun x0 x1 x2 x4 x6 x7 D151 hP h => ?_) hP h
              · exact ih _ _ _ _ _ _ _ hP h
            · rw [if_neg c311] at h
              refine hw_1 (fun k => x_ifnull (tgt := 327) dJ10_resize_311 (by decide) (fun z => absurd z c311) (fun _ => k)) ?_
              refine hw_1 (fun k => x_aload dJ10_resize_314 rfl k) ?_
              refine hw_1 (fun k => x_null dJ10_resize_316 k) ?_
              replace h := ga_ck_some h; obtain ⟨hc317_0, h⟩ := h
              replace h := ga_let_some h; obtain ⟨D317, eD317, h⟩ := h
              refine hw_set eD317 (Int.le_trans (by decide) (hkge_74 hc317_0)) (by decide) (fun k => x_putf dJ10_resize_317 fl_J10_177 rfl hc317_0 (hkge_74 hc317_0) trivial k) ?_
              have hP317 : h_P D317 := hP.set eD317 (hkge_74 hc317_0) (by decide) (hPn hc317_0 rfl)
              have hE317 : h_E D309 D317 := h_E_set eD317 (by decide)
              refine hw_1 (fun k => x_aload dJ10_resize_320 rfl k) ?_
              refine hw_1 (fun k => x_iload dJ10_resize_322 rfl k) ?_
              refine hw_1 (fun k => x_aload dJ10_resize_324 rfl k) ?_
              replace h := ga_ck_some h; obtain ⟨hc326_1, h⟩ := h
              replace h := ga_ck_some h; obtain ⟨hc326_2, h⟩ := h
              replace h := ga_ck_some h; obtain ⟨hc326_3, h⟩ := h
              replace h := ga_ck_some h; obtain ⟨hc326_4, h⟩ := h
              replace h := ga_let_some h; obtain ⟨D326, eD326, h⟩ := h
              refine hw_set eD326 (Int.le_trans (by decide) hc326_2) hc326_3.1 (fun k => x_aastL (t := 18) (L := [74, 75]) dJ10_resize_326 (hk_p hc326_1) rfl hc326_2 hc326_3.1 hc326_3.2 sbl_java_util_HashMap_Node (aw_or2 hc326_4) k) ?_
              have hP326 : h_P D326 := hP317.set eD326 hc326_2 hc326_3.1 (hPn (hk_p hc326_1) rfl)
              have hE326 : h_E D317 D326 := h_E_set eD326 hc326_3.1
              refine hw_locs [0, 1, 2, 3, 4, 5, 8, 9] (ls' := [(0, (2, x0)), (1, (2, x1)), (2, (0, x2)), (4, (0, x4)), (6, (2, x6)), (7, (0, x7)), (11, (2, x11)), (12, (2, x12))]) rfl ?_
              refine h_J10_resize_j327_ok hq (fun x0 x1 x2 x4 x6 x7 D151 hP h => ?_) hP326 h
              · exact ih _ _ _ _ _ _ _ hP h
        · rw [if_neg c177] at h
          refine hw_1 (fun k => x_ifnonnull (tgt := 198) dJ10_resize_177 (by decide) (fun z => absurd z c177) (fun _ => k)) ?_
          refine hw_1 (fun k => x_aload dJ10_resize_180 rfl k) ?_
          refine hw_1 (fun k => x_aload dJ10_resize_182 rfl k) ?_
          refine hw_1 (fun k => x_getf (v := D171 v162 0) dJ10_resize_184 fl_J10_168 hc174_2 rfl k) ?_
          refine hw_1 (fun k => x_iload dJ10_resize_187 rfl k) ?_
          refine hw_1 (fun k => x_iconst dJ10_resize_189 (by decide) k) ?_
          refine hw_1 (fun k => x_isub dJ10_resize_190 rfl k) ?_
          refine hw_1 (fun k => x_iand dJ10_resize_191 rfl k) ?_
          refine hw_1 (fun k => x_aload dJ10_resize_192 rfl k) ?_
          replace h := ga_ck_some h; obtain ⟨hc194_0, h⟩ := h
          replace h := ga_ck_some h; obtain ⟨hc194_1, h⟩ := h
          replace h := ga_ck_some h; obtain ⟨hc194_2, h⟩ := h
          replace h := ga_let_some h; obtain ⟨D194, eD194, h⟩ := h
          refine hw_set eD194 (Int.le_trans (by decide) hc194_1) hc194_2.1 (fun k => x_aastL (t := 18) (L := [74, 75]) dJ10_resize_194 (hk_p hc194_0) rfl hc194_1 hc194_2.1 hc194_2.2 sbl_java_util_HashMap_Node (Or.inr ⟨74, hc174_2, by decide⟩) k) ?_
          have hP194 : h_P D194 := hP171.set eD194 hc194_1 hc194_2.1 (hPn (hk_p hc194_0) rfl)
          have hE194 : h_E D171 D194 := h_E_set eD194 hc194_2.1
          refine hw_1 (fun k => x_goto (tgt := 347) dJ10_resize_195 (by decide) k) ?_
          replace h := ga_let_some h; obtain ⟨v347, ev347, h⟩ := h
          refine hw_1 (fun k => x_iinc (ls' := [(7, (0, v347)), (8, (2, v162)), (0, (2, x0)), (1, (2, x1)), (2, (0, x2)), (4, (0, x4)), (6, (2, x6))]) dJ10_resize_347 rfl ev347.symm (by decide) rfl k) ?_
          refine hw_1 (fun k => x_goto (tgt := 151) dJ10_resize_350 (by decide) k) ?_
          refine hw_locs [2, 3, 4, 5, 6, 0] (ls' := [(0, (2, x0)), (1, (2, x1)), (2, (0, x2)), (4, (0, x4)), (6, (2, x6)), (7, (0, v347))]) rfl ?_
          exact ih _ _ _ _ _ _ _ hP194 h
theorem h_J10_resize_j125_ok {G : aw_G} {M0 : aw_M} {D' : ga_D} {Q : Option aw_V → aw_M → Prop} {r : Int} (hq : Q (some (2, r)) (hM D')) {x0 x1 x2 x4 x5 : Int} {D : ga_D} (hP : h_P D) (h : h_J10_resize_j125 x0 x1 x2 x4 x5 D = some (r, D')) : aw_HW G "java/util/HashMap" cJ10_resize (some (.array (.object "java/util/HashMap$Node"))) 14 0 false M0 Q aw_no D' (hn D') (hsl D') 125 [(0, (2, x0)), (1, (2, x1)), (2, (0, x2)), (4, (0, x4)), (5, (0, x5))] [] D := by
  unfold h_J10_resize_j125 at h
  refine hw_1 (fun k => x_aload_n dJ10_resize_125 rfl k) ?_
  refine hw_1 (fun k => x_iload dJ10_resize_126 rfl k) ?_
  replace h := ga_ck_some h; obtain ⟨hc128_0, h⟩ := h
  replace h := ga_let_some h; obtain ⟨D128, eD128, h⟩ := h
  refine hw_set eD128 (Int.le_trans (by decide) (hkge_64 hc128_0)) (by decide) (fun k => x_putf dJ10_resize_128 fl_J10_88 rfl hc128_0 (hkge_64 hc128_0) trivial k) ?_
  have hP128 : h_P D128 := hP.set eD128 (hkge_64 hc128_0) (by decide) (hPn hc128_0 rfl)
  have hE128 : h_E D D128 := h_E_set eD128 (by decide)
  refine hw_1 (fun k => x_iload dJ10_resize_131 rfl k) ?_
  replace h := ga_ck_some h; obtain ⟨hc133_1, h⟩ := h
  replace h := ga_let_some h; obtain ⟨z133, ez133, h⟩ := h
  replace h := ga_let_some h; obtain ⟨D133, eD133, h⟩ := h
  refine hy_anew (t := 18) hP128 ez133 eD133 rfl rfl dJ10_resize_133 rfl (by decide +kernel) q3748 hc133_1.1 hc133_1.2 (fun hP133 hE133 hz133 hg133 => ?_)
  refine hw_1 (fun k => x_astore (ls' := [(6, (2, z133)), (0, (2, x0)), (1, (2, x1)), (2, (0, x2)), (4, (0, x4)), (5, (0, x5))]) dJ10_resize_136 (by decide) rfl k) ?_
  refine hw_1 (fun k => x_aload_n dJ10_resize_138 rfl k) ?_
  refine hw_1 (fun k => x_aload dJ10_resize_139 rfl k) ?_
  replace h := ga_let_some h; obtain ⟨D141, eD141, h⟩ := h
  refine hw_set eD141 (Int.le_trans (by decide) (hkge_64 (h_kx hE133 (h_kx hE128 hc128_0 (by decide)) (by decide)))) (by decide) (fun k => x_putf dJ10_resize_141 fl_J10_105 rfl (h_kx hE133 (h_kx hE128 hc128_0 (by decide)) (by decide)) (hkge_64 (h_kx hE133 (h_kx hE128 hc128_0 (by decide)) (by decide))) trivial k) ?_
  have hP141 : h_P D141 := hP133.set eD141 (hkge_64 (h_kx hE133 (h_kx hE128 hc128_0 (by decide)) (by decide))) (by decide) (hPn (h_kx hE133 (h_kx hE128 hc128_0 (by decide)) (by decide)) rfl)
  have hE141 : h_E D133 D141 := h_E_set eD141 (by decide)
  refine hw_1 (fun k => x_aload_n dJ10_resize_144 rfl k) ?_
  by_cases c145 : x1 = 0
  · rw [if_pos c145] at h
    refine hw_1 (fun k => x_ifnull (tgt := 353) dJ10_resize_145 (by decide) (fun _ => k) (fun z => absurd c145 z)) ?_
    refine hw_1 (fun k => x_aload dJ10_resize_353 rfl k) ?_
    obtain ⟨rfl, rfl⟩ := ga_end h
    exact hw_ret hP141 (x_aret dJ10_resize_355 rfl (by first | exact Or.inl ⟨_, rfl⟩ | exact Or.inr ⟨_, rfl⟩) hq)
  · rw [if_neg c145] at h
    refine hw_1 (fun k => x_ifnull (tgt := 353) dJ10_resize_145 (by decide) (fun z => absurd z c145) (fun _ => k)) ?_
    refine hw_1 (fun k => x_iconst dJ10_resize_148 (by decide) k) ?_
    refine hw_1 (fun k => x_istore (ls' := [(7, (0, 0)), (6, (2, z133)), (0, (2, x0)), (1, (2, x1)), (2, (0, x2)), (4, (0, x4)), (5, (0, x5))]) dJ10_resize_149 (by decide) rfl k) ?_
    refine hw_locs [2, 3, 4, 5, 1, 0] (ls' := [(0, (2, x0)), (1, (2, x1)), (2, (0, x2)), (4, (0, x4)), (6, (2, z133)), (7, (0, 0))]) rfl ?_
    refine h_J10_resize_l151_ok hq (fun x6 D353 hP h => ?_) hP141 h
    · refine hw_1 (fun k => x_aload dJ10_resize_353 rfl k) ?_
      obtain ⟨rfl, rfl⟩ := ga_end h
      exact hw_ret hP (x_aret dJ10_resize_355 rfl (by first | exact Or.inl ⟨_, rfl⟩ | exact Or.inr ⟨_, rfl⟩) hq)
theorem h_J10_resize_j85_ok {G : aw_G} {M0 : aw_M} {D' : ga_D} {Q : Option aw_V → aw_M → Prop} {r : Int} (hq : Q (some (2, r)) (hM D')) {x0 x1 x2 x4 x5 : Int} {D : ga_D} (hP : h_P D) (h : h_J10_resize_j85 x0 x1 x2 x4 x5 D = some (r, D')) : aw_HW G "java/util/HashMap" cJ10_resize (some (.array (.object "java/util/HashMap$Node"))) 14 0 false M0 Q aw_no D' (hn D') (hsl D') 85 [(0, (2, x0)), (1, (2, x1)), (2, (0, x2)), (4, (0, x4)), (5, (0, x5))] [] D := by
  unfold h_J10_resize_j85 at h
  refine hw_1 (fun k => x_iload dJ10_resize_85 rfl k) ?_
  by_cases c87 : x5 ≠ 0
  · rw [if_pos c87] at h
    refine hw_1 (fun k => x_if_ne (tgt := 125) dJ10_resize_87 (by decide) (fun _ => k) (fun z => absurd c87 z)) ?_
    refine h_J10_resize_j125_ok hq hP h
  · rw [if_neg c87] at h
    refine hw_1 (fun k => x_if_ne (tgt := 125) dJ10_resize_87 (by decide) (fun z => absurd z c87) (fun _ => k)) ?_
    refine hw_1 (fun k => x_iload dJ10_resize_90 rfl k) ?_
    exact absurd h (by intro h; cases h)
theorem h_J10_resize_j15_ok {G : aw_G} {M0 : aw_M} {D' : ga_D} {Q : Option aw_V → aw_M → Prop} {r : Int} (hq : Q (some (2, r)) (hM D')) {x0 x1 s0 : Int} {D : ga_D} (hP : h_P D) (h : h_J10_resize_j15 x0 x1 s0 D = some (r, D')) : aw_HW G "java/util/HashMap" cJ10_resize (some (.array (.object "java/util/HashMap$Node"))) 14 0 false M0 Q aw_no D' (hn D') (hsl D') 15 [(0, (2, x0)), (1, (2, x1))] [(0, s0)] D := by
  unfold h_J10_resize_j15 at h
  refine hw_1 (fun k => x_istore_n (ls' := [(2, (0, s0)), (0, (2, x0)), (1, (2, x1))]) dJ10_resize_15 (by decide) rfl k) ?_
  refine hw_1 (fun k => x_aload_n dJ10_resize_16 rfl k) ?_
  replace h := ga_ck_some h; obtain ⟨hc17_0, h⟩ := h
  refine hw_1 (fun k => x_getf (v := D x0 6) dJ10_resize_17 fl_J10_88 hc17_0 rfl k) ?_
  replace h := ga_let_some h; obtain ⟨v20, ev20, h⟩ := h
  refine hw_nm ev20 ?_
  refine hw_1 (fun k => x_istore_n (ls' := [(3, (0, v20)), (2, (0, s0)), (0, (2, x0)), (1, (2, x1))]) dJ10_resize_20 (by decide) rfl k) ?_
  refine hw_1 (fun k => x_iconst dJ10_resize_21 (by decide) k) ?_
  refine hw_1 (fun k => x_istore (ls' := [(5, (0, 0)), (3, (0, v20)), (2, (0, s0)), (0, (2, x0)), (1, (2, x1))]) dJ10_resize_22 (by decide) rfl k) ?_
  refine hw_1 (fun k => x_iload_n dJ10_resize_24 rfl k) ?_
  by_cases c25 : s0 ≤ 0
  · rw [if_pos c25] at h
    refine hw_1 (fun k => x_if_le (tgt := 67) dJ10_resize_25 (by decide) (fun _ => k) (fun z => absurd c25 z)) ?_
    refine hw_1 (fun k => x_iload_n dJ10_resize_67 rfl k) ?_
    by_cases c68 : v20 ≤ 0
    · rw [if_pos c68] at h
      refine hw_1 (fun k => x_if_le (tgt := 77) dJ10_resize_68 (by decide) (fun _ => k) (fun z => absurd c68 z)) ?_
      refine hw_1 (fun k => x_bipush dJ10_resize_77 (by decide) k) ?_
      refine hw_1 (fun k => x_istore (ls' := [(4, (0, 16)), (5, (0, 0)), (3, (0, v20)), (2, (0, s0)), (0, (2, x0)), (1, (2, x1))]) dJ10_resize_79 (by decide) rfl k) ?_
      refine hw_1 (fun k => x_bipush dJ10_resize_81 (by decide) k) ?_
      refine hw_1 (fun k => x_istore (ls' := [(5, (0, 12)), (4, (0, 16)), (3, (0, v20)), (2, (0, s0)), (0, (2, x0)), (1, (2, x1))]) dJ10_resize_83 (by decide) rfl k) ?_
      refine hw_locs [4, 5, 3, 1, 0] (ls' := [(0, (2, x0)), (1, (2, x1)), (2, (0, s0)), (4, (0, 16)), (5, (0, 12))]) rfl ?_
      refine h_J10_resize_j85_ok hq hP h
    · rw [if_neg c68] at h
      refine hw_1 (fun k => x_if_le (tgt := 77) dJ10_resize_68 (by decide) (fun z => absurd z c68) (fun _ => k)) ?_
      refine hw_1 (fun k => x_iload_n dJ10_resize_71 rfl k) ?_
      refine hw_1 (fun k => x_istore (ls' := [(4, (0, v20)), (5, (0, 0)), (3, (0, v20)), (2, (0, s0)), (0, (2, x0)), (1, (2, x1))]) dJ10_resize_72 (by decide) rfl k) ?_
      refine hw_1 (fun k => x_goto (tgt := 85) dJ10_resize_74 (by decide) k) ?_
      refine hw_locs [4, 5, 3, 0, 1] (ls' := [(0, (2, x0)), (1, (2, x1)), (2, (0, s0)), (4, (0, v20)), (5, (0, 0))]) rfl ?_
      refine h_J10_resize_j85_ok hq hP h
  · rw [if_neg c25] at h
    refine hw_1 (fun k => x_if_le (tgt := 67) dJ10_resize_25 (by decide) (fun z => absurd z c25) (fun _ => k)) ?_
    refine hw_1 (fun k => x_iload_n dJ10_resize_28 rfl k) ?_
    refine hw_1 (fun k => x_ldc (z := 1073741824) dJ10_resize_29 q3745 (by decide) k) ?_
    by_cases c31 : s0 < 1073741824
    · rw [if_pos c31] at h
      refine hw_1 (fun k => x_icmp_lt (tgt := 42) dJ10_resize_31 (by decide) (fun _ => k) (fun z => absurd c31 z)) ?_
      refine hw_1 (fun k => x_iload_n dJ10_resize_42 rfl k) ?_
      refine hw_1 (fun k => x_iconst dJ10_resize_43 (by decide) k) ?_
      refine hw_1 (fun k => x_ishl dJ10_resize_44 rfl k) ?_
      refine hw_1 (fun k => x_dup dJ10_resize_45 rfl k) ?_
      replace h := ga_let_some h; obtain ⟨v46, ev46, h⟩ := h
      refine hw_nm ev46 ?_
      refine hw_1 (fun k => x_istore (ls' := [(4, (0, v46)), (5, (0, 0)), (3, (0, v20)), (2, (0, s0)), (0, (2, x0)), (1, (2, x1))]) dJ10_resize_46 (by decide) rfl k) ?_
      refine hw_1 (fun k => x_ldc (z := 1073741824) dJ10_resize_48 q3745 (by decide) k) ?_
      by_cases c50 : 1073741824 ≤ aw_shl s0 1
      · rw [if_pos c50] at h
        refine hw_1 (fun k => x_icmp_ge (tgt := 85) dJ10_resize_50 (by decide) (fun _ => k) (fun z => absurd c50 z)) ?_
        refine hw_locs [4, 5, 3, 0, 1] (ls' := [(0, (2, x0)), (1, (2, x1)), (2, (0, s0)), (4, (0, v46)), (5, (0, 0))]) rfl ?_
        refine h_J10_resize_j85_ok hq hP h
      · rw [if_neg c50] at h
        refine hw_1 (fun k => x_icmp_ge (tgt := 85) dJ10_resize_50 (by decide) (fun z => absurd z c50) (fun _ => k)) ?_
        refine hw_1 (fun k => x_iload_n dJ10_resize_53 rfl k) ?_
        refine hw_1 (fun k => x_bipush dJ10_resize_54 (by decide) k) ?_
        by_cases c56 : s0 < 16
        · rw [if_pos c56] at h
          refine hw_1 (fun k => x_icmp_lt (tgt := 85) dJ10_resize_56 (by decide) (fun _ => k) (fun z => absurd c56 z)) ?_
          refine hw_locs [4, 5, 3, 0, 1] (ls' := [(0, (2, x0)), (1, (2, x1)), (2, (0, s0)), (4, (0, v46)), (5, (0, 0))]) rfl ?_
          refine h_J10_resize_j85_ok hq hP h
        · rw [if_neg c56] at h
          refine hw_1 (fun k => x_icmp_lt (tgt := 85) dJ10_resize_56 (by decide) (fun z => absurd z c56) (fun _ => k)) ?_
          refine hw_1 (fun k => x_iload_n dJ10_resize_59 rfl k) ?_
          refine hw_1 (fun k => x_iconst dJ10_resize_60 (by decide) k) ?_
          refine hw_1 (fun k => x_ishl dJ10_resize_61 rfl k) ?_
          replace h := ga_let_some h; obtain ⟨v62, ev62, h⟩ := h
          refine hw_nm ev62 ?_
          refine hw_1 (fun k => x_istore (ls' := [(5, (0, v62)), (4, (0, v46)), (3, (0, v20)), (2, (0, s0)), (0, (2, x0)), (1, (2, x1))]) dJ10_resize_62 (by decide) rfl k) ?_
          refine hw_1 (fun k => x_goto (tgt := 85) dJ10_resize_64 (by decide) k) ?_
          refine hw_locs [4, 5, 3, 1, 0] (ls' := [(0, (2, x0)), (1, (2, x1)), (2, (0, s0)), (4, (0, v46)), (5, (0, v62))]) rfl ?_
          refine h_J10_resize_j85_ok hq hP h
    · rw [if_neg c31] at h
      refine hw_1 (fun k => x_icmp_lt (tgt := 42) dJ10_resize_31 (by decide) (fun z => absurd z c31) (fun _ => k)) ?_
      refine hw_1 (fun k => x_aload_n dJ10_resize_34 rfl k) ?_
      refine hw_1 (fun k => x_ldc (z := 2147483647) dJ10_resize_35 q3746 (by decide) k) ?_
      replace h := ga_let_some h; obtain ⟨D37, eD37, h⟩ := h
      refine hw_set eD37 (Int.le_trans (by decide) (hkge_64 hc17_0)) (by decide) (fun k => x_putf dJ10_resize_37 fl_J10_88 rfl hc17_0 (hkge_64 hc17_0) trivial k) ?_
      have hP37 : h_P D37 := hP.set eD37 (hkge_64 hc17_0) (by decide) (hPn hc17_0 rfl)
      have hE37 : h_E D D37 := h_E_set eD37 (by decide)
      refine hw_1 (fun k => x_aload_n dJ10_resize_40 rfl k) ?_
      obtain ⟨rfl, rfl⟩ := ga_end h
      exact hw_ret hP37 (x_aret dJ10_resize_41 rfl (by first | exact Or.inl ⟨_, rfl⟩ | exact Or.inr ⟨_, rfl⟩) hq)
theorem h_J10_resize_ok {G : aw_G} {D D' : ga_D} {r : Int} {x0 : Int} (hP : h_P D) (h : h_J10_resize x0 D = some (r, D')) : aw_HR yJ10_resize cJ10_resize 14 (some (.array (.object "java/util/HashMap$Node"))) 0 G [(2, x0)] D (some (2, r)) D' := by
  unfold h_J10_resize at h
  refine hw_body (own := "java/util/HashMap") (ini := false) (ls := [(0, (2, x0))]) rfl rfl (fun h => by cases h) (Nat.le_of_ble_eq_true rfl) rfl fun Q hq => ?_
  refine hw_1 (fun k => x_aload_n dJ10_resize_0 rfl k) ?_
  replace h := ga_ck_some h; obtain ⟨hc1_0, h⟩ := h
  refine hw_1 (fun k => x_getf (v := D x0 2) dJ10_resize_1 fl_J10_105 hc1_0 rfl k) ?_
  replace h := ga_let_some h; obtain ⟨v4, ev4, h⟩ := h
  refine hw_nm ev4 ?_
  refine hw_1 (fun k => x_astore_n (ls' := [(1, (2, v4)), (0, (2, x0))]) dJ10_resize_4 (by decide) rfl k) ?_
  refine hw_1 (fun k => x_aload_n dJ10_resize_5 rfl k) ?_
  by_cases c6 : v4 ≠ 0
  · rw [if_pos c6] at h
    refine hw_1 (fun k => x_ifnonnull (tgt := 13) dJ10_resize_6 (by decide) (fun _ => k) (fun z => absurd c6 z)) ?_
    refine hw_1 (fun k => x_aload_n dJ10_resize_13 rfl k) ?_
    replace h := ga_ck_some h; obtain ⟨hc14_0, h⟩ := h
    refine hw_1 (fun k => x_alen (t := 18) dJ10_resize_14 (hk_p hc14_0) rfl k) ?_
    refine hw_locs [1, 0] (ls' := [(0, (2, x0)), (1, (2, v4))]) rfl ?_
    refine h_J10_resize_j15_ok hq hP h
  · rw [if_neg c6] at h
    refine hw_1 (fun k => x_ifnonnull (tgt := 13) dJ10_resize_6 (by decide) (fun z => absurd z c6) (fun _ => k)) ?_
    refine hw_1 (fun k => x_iconst dJ10_resize_9 (by decide) k) ?_
    refine hw_1 (fun k => x_goto (tgt := 15) dJ10_resize_10 (by decide) k) ?_
    refine hw_locs [1, 0] (ls' := [(0, (2, x0)), (1, (2, v4))]) rfl ?_
    refine h_J10_resize_j15_ok hq hP h
theorem h_J10_newNode_ok {G : aw_G} {D D' : ga_D} {r : Int} {x0 x1 x2 x3 x4 : Int} (hP : h_P D) (h : h_J10_newNode x0 x1 x2 x3 x4 D = some (r, D')) : aw_HR yJ10_newNode cJ10_newNode 5 (some (.object "java/util/HashMap$Node")) 2 G [(2, x0), (0, x1), (2, x2), (2, x3), (2, x4)] D (some (2, r)) D' := by
  unfold h_J10_newNode at h
  refine hw_body (own := "java/util/HashMap") (ini := false) (ls := [(0, (2, x0)), (1, (0, x1)), (2, (2, x2)), (3, (2, x3)), (4, (2, x4))]) rfl rfl (fun h => by cases h) (Nat.le_of_ble_eq_true rfl) rfl fun Q hq => ?_
  replace h := ga_let_some h; obtain ⟨z0, ez0, h⟩ := h
  replace h := ga_let_some h; obtain ⟨D0, eD0, h⟩ := h
  refine hy_new hP ez0 eD0 rfl rfl dJ10_newNode_0 rfl rfl q3748 q3764 q486 (fun hP0 hE0 hz0 hg0 => ?_)
  refine hw_1 (fun k => x_dup dJ10_newNode_3 rfl k) ?_
  refine hw_1 (fun k => x_iload_n dJ10_newNode_4 rfl k) ?_
  refine hw_1 (fun k => x_aload_n dJ10_newNode_5 rfl k) ?_
  refine hw_1 (fun k => x_aload_n dJ10_newNode_6 rfl k) ?_
  refine hw_1 (fun k => x_aload dJ10_newNode_7 rfl k) ?_
  replace h := ga_bind_some h; obtain ⟨r9, D9, g9, h⟩ := h
  have hR9 := (h_J31_init_ok (G := G) (hk_pos1 hz0 (by decide)) hP0 g9)
  obtain ⟨hP9, hE9, -⟩ := id hR9
  refine hw_call (rest := [(2, z0)]) hR9 (fun hc hk9 => x_callI (as := [(0, x1), (2, x2), (2, x3), (2, x4)]) (rest := [(2, z0)]) dJ10_newNode_9 hc (lw_meth q3767) q486 q3765 q3766 hz0 rfl rfl (show _ ∧ _ ∧ _ = some 4 from by decide +kernel) (by decide) (by decide) rfl (Nat.le_of_ble_eq_true rfl) hk9 aw_nox) ?_
  obtain ⟨rfl, rfl⟩ := ga_end h
  exact hw_ret hP9 (x_aret dJ10_newNode_12 rfl (by first | exact Or.inl ⟨_, rfl⟩ | exact Or.inr ⟨_, rfl⟩) hq)
theorem h_J22_equals_l9_ok {G : aw_G} {M0 : aw_M} {D' : ga_D} {Q : Option aw_V → aw_M → Prop} {r : Int} (hq : Q (some (0, r)) (hM D')) {k24 : ga_D → ga_S} {k32 : ga_D → ga_S} (hk24 : ∀ (D : ga_D), h_P D → k24 D = some (r, D') → aw_HW G "java/lang/StringLatin1" cJ22_equals (some (.boolean)) 3 0 false M0 Q aw_no D' (hn D') (hsl D') 24 [] [] D) (hk32 : ∀ (D : ga_D), h_P D → k32 D = some (r, D') → aw_HW G "java/lang/StringLatin1" cJ22_equals (some (.boolean)) 3 0 false M0 Q aw_no D' (hn D') (hsl D') 32 [] [] D) : ∀ {n : Nat} {x0 x1 x2 : Int} {D : ga_D}, h_P D → h_J22_equals_l9 n x0 x1 x2 D k24 k32 = some (r, D') → aw_HW G "java/lang/StringLatin1" cJ22_equals (some (.boolean)) 3 0 false M0 Q aw_no D' (hn D') (hsl D') 9 [(0, (2, x0)), (1, (2, x1)), (2, (0, x2))] [] D := by
  intro n
  induction n with
  | zero => intro x0 x1 x2 D hP h; exact absurd (h : (none : ga_S) = some (r, D')) (by intro h; cases h)
  | succ n ih =>
    intro x0 x1 x2 D hP h
    have ih : ∀ (x0 x1 x2 : Int) (D : ga_D), h_P D → h_J22_equals_l9 n x0 x1 x2 D k24 k32 = some (r, D') → aw_HW G "java/lang/StringLatin1" cJ22_equals (some (.boolean)) 3 0 false M0 Q aw_no D' (hn D') (hsl D') 9 [(0, (2, x0)), (1, (2, x1)), (2, (0, x2))] [] D := fun x0 x1 x2 D hP h => ih hP h
    replace h : (ga_ck ((hk D x0).1 = 1002) (if (hk D x0).2 ≤ x2 then (k32 D) else (ga_ck (0 ≤ x2 ∧ x2 < (hk D x0).2) (ga_ck ((hk D x1).1 = 1002) (ga_ck (0 ≤ x2 ∧ x2 < (hk D x1).2) (if D x0 x2 = D x1 x2 then (ga_let (aw_w32 (x2 + 1)) (fun v26 => h_J22_equals_l9 n x0 x1 v26 D k24 k32)) else (k24 D)))))) : ga_S) = some (r, D') := h
    refine hw_1 (fun k => x_iload_n dJ22_equals_9 rfl k) ?_
    refine hw_1 (fun k => x_aload_n dJ22_equals_10 rfl k) ?_
    replace h := ga_ck_some h; obtain ⟨hc11_0, h⟩ := h
    refine hw_1 (fun k => x_alen (t := 2) dJ22_equals_11 (hk_p hc11_0) rfl k) ?_
    by_cases c12 : (hk D x0).2 ≤ x2
    · rw [if_pos c12] at h
      refine hw_1 (fun k => x_icmp_ge (tgt := 32) dJ22_equals_12 (by decide) (fun _ => k) (fun z => absurd c12 z)) ?_
      refine hw_locs [] (ls' := []) rfl ?_
      exact hk32 _ hP h
    · rw [if_neg c12] at h
      refine hw_1 (fun k => x_icmp_ge (tgt := 32) dJ22_equals_12 (by decide) (fun z => absurd z c12) (fun _ => k)) ?_
      refine hw_1 (fun k => x_aload_n dJ22_equals_15 rfl k) ?_
      refine hw_1 (fun k => x_iload_n dJ22_equals_16 rfl k) ?_
      replace h := ga_ck_some h; obtain ⟨hc17_0, h⟩ := h
      refine hw_1 (fun k => x_bald (v := D x0 x2) dJ22_equals_17 (hk_p hc11_0) hc17_0.1 hc17_0.2 rfl k) ?_
      refine hw_1 (fun k => x_aload_n dJ22_equals_18 rfl k) ?_
      refine hw_1 (fun k => x_iload_n dJ22_equals_19 rfl k) ?_
      replace h := ga_ck_some h; obtain ⟨hc20_1, h⟩ := h
      replace h := ga_ck_some h; obtain ⟨hc20_2, h⟩ := h
      refine hw_1 (fun k => x_bald (v := D x1 x2) dJ22_equals_20 (hk_p hc20_1) hc20_2.1 hc20_2.2 rfl k) ?_
      by_cases c21 : D x0 x2 = D x1 x2
      · rw [if_pos c21] at h
        refine hw_1 (fun k => x_icmp_eq (tgt := 26) dJ22_equals_21 (by decide) (fun _ => k) (fun z => absurd c21 z)) ?_
        replace h := ga_let_some h; obtain ⟨v26, ev26, h⟩ := h
        refine hw_1 (fun k => x_iinc (ls' := [(2, (0, v26)), (0, (2, x0)), (1, (2, x1))]) dJ22_equals_26 rfl ev26.symm (by decide) rfl k) ?_
        refine hw_1 (fun k => x_goto (tgt := 9) dJ22_equals_29 (by decide) k) ?_
        refine hw_locs [1, 2, 0] (ls' := [(0, (2, x0)), (1, (2, x1)), (2, (0, v26))]) rfl ?_
        exact ih _ _ _ _ hP h
      · rw [if_neg c21] at h
        refine hw_1 (fun k => x_icmp_eq (tgt := 26) dJ22_equals_21 (by decide) (fun z => absurd z c21) (fun _ => k)) ?_
        refine hw_locs [] (ls' := []) rfl ?_
        exact hk24 _ hP h
theorem h_J22_equals_ok {G : aw_G} {D D' : ga_D} {r : Int} {x0 x1 : Int} (hP : h_P D) (h : h_J22_equals x0 x1 D = some (r, D')) : aw_HR yJ22_equals cJ22_equals 3 (some (.boolean)) 0 G [(2, x0), (2, x1)] D (some (0, r)) D' := by
  unfold h_J22_equals at h
  refine hw_body (own := "java/lang/StringLatin1") (ini := false) (ls := [(0, (2, x0)), (1, (2, x1))]) rfl rfl (fun h => by cases h) (Nat.le_of_ble_eq_true rfl) rfl fun Q hq => ?_
  refine hw_1 (fun k => x_aload_n dJ22_equals_0 rfl k) ?_
  replace h := ga_ck_some h; obtain ⟨hc1_0, h⟩ := h
  refine hw_1 (fun k => x_alen (t := 2) dJ22_equals_1 (hk_p hc1_0) rfl k) ?_
  refine hw_1 (fun k => x_aload_n dJ22_equals_2 rfl k) ?_
  replace h := ga_ck_some h; obtain ⟨hc3_1, h⟩ := h
  refine hw_1 (fun k => x_alen (t := 2) dJ22_equals_3 (hk_p hc3_1) rfl k) ?_
  by_cases c4 : (hk D x0).2 ≠ (hk D x1).2
  · rw [if_pos c4] at h
    refine hw_1 (fun k => x_icmp_ne (tgt := 34) dJ22_equals_4 (by decide) (fun _ => k) (fun z => absurd c4 z)) ?_
    refine hw_1 (fun k => x_iconst dJ22_equals_34 (by decide) k) ?_
    obtain ⟨rfl, rfl⟩ := ga_end h
    exact hw_ret hP (x_iret dJ22_equals_35 rfl rfl (show (0 : Int) ≤ 0 ∧ (0 : Int) < 2 from by decide) hq)
  · rw [if_neg c4] at h
    refine hw_1 (fun k => x_icmp_ne (tgt := 34) dJ22_equals_4 (by decide) (fun z => absurd z c4) (fun _ => k)) ?_
    refine hw_1 (fun k => x_iconst dJ22_equals_7 (by decide) k) ?_
    refine hw_1 (fun k => x_istore_n (ls' := [(2, (0, 0)), (0, (2, x0)), (1, (2, x1))]) dJ22_equals_8 (by decide) rfl k) ?_
    refine hw_locs [1, 2, 0] (ls' := [(0, (2, x0)), (1, (2, x1)), (2, (0, 0))]) rfl ?_
    refine h_J22_equals_l9_ok hq (fun D24 hP h => ?_) (fun D32 hP h => ?_) hP h
    · refine hw_1 (fun k => x_iconst dJ22_equals_24 (by decide) k) ?_
      obtain ⟨rfl, rfl⟩ := ga_end h
      exact hw_ret hP (x_iret dJ22_equals_25 rfl rfl (show (0 : Int) ≤ 0 ∧ (0 : Int) < 2 from by decide) hq)
    · refine hw_1 (fun k => x_iconst dJ22_equals_32 (by decide) k) ?_
      obtain ⟨rfl, rfl⟩ := ga_end h
      exact hw_ret hP (x_iret dJ22_equals_33 rfl rfl (show (0 : Int) ≤ 1 ∧ (1 : Int) < 2 from by decide) hq)
theorem h_J20_equals_j36_ok {G : aw_G} {M0 : aw_M} {D' : ga_D} {Q : Option aw_V → aw_M → Prop} {r : Int} (hq : Q (some (0, r)) (hM D')) {x0 x2 : Int} {D : ga_D} (hP : h_P D) (h : h_J20_equals_j36 x0 x2 D = some (r, D')) : aw_HW G "java/lang/String" cJ20_equals (some (.boolean)) 3 1 false M0 Q aw_no D' (hn D') (hsl D') 36 [(0, (2, x0)), (2, (2, x2))] [] D := by
  unfold h_J20_equals_j36 at h
  refine hw_1 (fun k => x_aload_n dJ20_equals_36 rfl k) ?_
  replace h := ga_ck_some h; obtain ⟨hc37_0, h⟩ := h
  refine hw_1 (fun k => x_getf (v := D x0 0) dJ20_equals_37 fl_J20_9 hc37_0 rfl k) ?_
  refine hw_1 (fun k => x_aload_n dJ20_equals_40 rfl k) ?_
  replace h := ga_ck_some h; obtain ⟨hc41_1, h⟩ := h
  refine hw_1 (fun k => x_getf (v := D x2 0) dJ20_equals_41 fl_J20_9 hc41_1 rfl k) ?_
  replace h := ga_bind_some h; obtain ⟨r44, D44, g44, h⟩ := h
  have hR44 := (h_J22_equals_ok (G := G) hP g44)
  obtain ⟨hP44, hE44, -⟩ := id hR44
  refine hw_call (rest := []) hR44 (fun hc hk9 => x_callS (as := [(2, D x0 0), (2, D x2 0)]) (rest := []) dJ20_equals_44 hc (lw_S q3051 q3052 q473 q3053) (show _ ∧ _ ∧ _ = some 2 from by decide +kernel) (by decide) (by decide) rfl (Nat.le_of_ble_eq_true rfl) hk9 aw_nox) ?_
  by_cases c47 : r44 = 0
  · rw [if_pos c47] at h
    refine hw_1 (fun k => x_if_eq (tgt := 54) dJ20_equals_47 (by decide) (fun _ => k) (fun z => absurd c47 z)) ?_
    refine hw_1 (fun k => x_iconst dJ20_equals_54 (by decide) k) ?_
    obtain ⟨rfl, rfl⟩ := ga_end h
    exact hw_ret hP44 (x_iret dJ20_equals_55 rfl rfl (show (0 : Int) ≤ 0 ∧ (0 : Int) < 2 from by decide) hq)
  · rw [if_neg c47] at h
    refine hw_1 (fun k => x_if_eq (tgt := 54) dJ20_equals_47 (by decide) (fun z => absurd z c47) (fun _ => k)) ?_
    refine hw_1 (fun k => x_iconst dJ20_equals_50 (by decide) k) ?_
    refine hw_1 (fun k => x_goto (tgt := 55) dJ20_equals_51 (by decide) k) ?_
    obtain ⟨rfl, rfl⟩ := ga_end h
    exact hw_ret hP44 (x_iret dJ20_equals_55 rfl rfl (show (0 : Int) ≤ 1 ∧ (1 : Int) < 2 from by decide) hq)
theorem h_J20_equals_ok {G : aw_G} {D D' : ga_D} {r : Int} {x0 x1 : Int} (hP : h_P D) (h : h_J20_equals x0 x1 D = some (r, D')) : aw_HR yJ20_equals cJ20_equals 3 (some (.boolean)) 1 G [(2, x0), (2, x1)] D (some (0, r)) D' := by
  unfold h_J20_equals at h
  refine hw_body (own := "java/lang/String") (ini := false) (ls := [(0, (2, x0)), (1, (2, x1))]) rfl rfl (fun h => by cases h) (Nat.le_of_ble_eq_true rfl) rfl fun Q hq => ?_
  refine hw_1 (fun k => x_aload_n dJ20_equals_0 rfl k) ?_
  refine hw_1 (fun k => x_aload_n dJ20_equals_1 rfl k) ?_
  replace h := ga_ck_some h; obtain ⟨hc2_0, h⟩ := h
  by_cases c2 : x0 ≠ x1
  · rw [if_pos c2] at h
    refine hw_1 (fun k => x_acmpS_ne (tgt := 7) dJ20_equals_2 (by decide) hc2_0 (fun _ => k) (fun z => absurd c2 z)) ?_
    refine hw_1 (fun k => x_aload_n dJ20_equals_7 rfl k) ?_
    replace h := ga_ck_some h; obtain ⟨hc8_0, h⟩ := h
    refine hw_1 (fun k => x_instY (cN := 69) dJ20_equals_8 q3050 hc8_0 rfl (Or.inl rfl) k) ?_
    refine hw_1 (fun k => x_if_eq (tgt := 54) dJ20_equals_11 (by decide) (fun z => absurd z (show ¬ ((1 : Int) = 0) from (by decide))) (fun _ => k)) ?_
    refine hw_1 (fun k => x_aload_n dJ20_equals_14 rfl k) ?_
    refine hw_1 (fun k => x_cast (cN := 69) dJ20_equals_15 q3050 (Or.inr hc8_0) rfl (Or.inl rfl) k) ?_
    refine hw_1 (fun k => x_astore_n (ls' := [(2, (2, x1)), (0, (2, x0)), (1, (2, x1))]) dJ20_equals_18 (by decide) rfl k) ?_
    refine hw_1 (fun k => x_gets (tg := 0) (z := 1) dJ20_equals_19 q2869 (by decide +kernel) k) ?_
    refine hw_1 (fun k => x_if_eq (tgt := 36) dJ20_equals_22 (by decide) (fun z => absurd z (show ¬ ((1 : Int) = 0) from (by decide))) (fun _ => k)) ?_
    refine hw_1 (fun k => x_aload_n dJ20_equals_25 rfl k) ?_
    replace h := ga_ck_some h; obtain ⟨hc26_0, h⟩ := h
    refine hw_1 (fun k => x_getf (v := D x0 1) dJ20_equals_26 fl_J20_15 hc26_0 rfl k) ?_
    refine hw_1 (fun k => x_aload_n dJ20_equals_29 rfl k) ?_
    refine hw_1 (fun k => x_getf (v := D x1 1) dJ20_equals_30 fl_J20_15 hc8_0 rfl k) ?_
    by_cases c33 : D x0 1 ≠ D x1 1
    · rw [if_pos c33] at h
      refine hw_1 (fun k => x_icmp_ne (tgt := 54) dJ20_equals_33 (by decide) (fun _ => k) (fun z => absurd c33 z)) ?_
      refine hw_1 (fun k => x_iconst dJ20_equals_54 (by decide) k) ?_
      obtain ⟨rfl, rfl⟩ := ga_end h
      exact hw_ret hP (x_iret dJ20_equals_55 rfl rfl (show (0 : Int) ≤ 0 ∧ (0 : Int) < 2 from by decide) hq)
    · rw [if_neg c33] at h
      refine hw_1 (fun k => x_icmp_ne (tgt := 54) dJ20_equals_33 (by decide) (fun z => absurd z c33) (fun _ => k)) ?_
      refine hw_locs [1, 0] (ls' := [(0, (2, x0)), (2, (2, x1))]) rfl ?_
      refine h_J20_equals_j36_ok hq hP h
  · rw [if_neg c2] at h
    refine hw_1 (fun k => x_acmpS_ne (tgt := 7) dJ20_equals_2 (by decide) hc2_0 (fun z => absurd z c2) (fun _ => k)) ?_
    refine hw_1 (fun k => x_iconst dJ20_equals_5 (by decide) k) ?_
    obtain ⟨rfl, rfl⟩ := ga_end h
    exact hw_ret hP (x_iret dJ20_equals_6 rfl rfl (show (0 : Int) ≤ 1 ∧ (1 : Int) < 2 from by decide) hq)
theorem h_J25_intValue_ok {G : aw_G} {D D' : ga_D} {r : Int} {x0 : Int} (hP : h_P D) (h : h_J25_intValue x0 D = some (r, D')) : aw_HR yJ25_intValue cJ25_intValue 1 (some (.int)) 0 G [(2, x0)] D (some (0, r)) D' := by
  unfold h_J25_intValue at h
  refine hw_body (own := "java/lang/Integer") (ini := false) (ls := [(0, (2, x0))]) rfl rfl (fun h => by cases h) (Nat.le_of_ble_eq_true rfl) rfl fun Q hq => ?_
  refine hw_1 (fun k => x_aload_n dJ25_intValue_0 rfl k) ?_
  replace h := ga_ck_some h; obtain ⟨hc1_0, h⟩ := h
  refine hw_1 (fun k => x_getf (v := D x0 0) dJ25_intValue_1 fl_J25_205 hc1_0 rfl k) ?_
  obtain ⟨rfl, rfl⟩ := ga_end h
  exact hw_ret hP (x_iret dJ25_intValue_4 rfl rfl trivial hq)
theorem h_J25_equals_ok {G : aw_G} {D D' : ga_D} {r : Int} {x0 x1 : Int} (hP : h_P D) (h : h_J25_equals x0 x1 D = some (r, D')) : aw_HR yJ25_equals cJ25_equals 2 (some (.boolean)) 1 G [(2, x0), (2, x1)] D (some (0, r)) D' := by
  unfold h_J25_equals at h
  refine hw_body (own := "java/lang/Integer") (ini := false) (ls := [(0, (2, x0)), (1, (2, x1))]) rfl rfl (fun h => by cases h) (Nat.le_of_ble_eq_true rfl) rfl fun Q hq => ?_
  refine hw_1 (fun k => x_aload_n dJ25_equals_0 rfl k) ?_
  replace h := ga_ck_some h; obtain ⟨hc1_0, h⟩ := h
  refine hw_1 (fun k => x_instY (cN := 70) dJ25_equals_1 q3150 hc1_0 rfl (Or.inl rfl) k) ?_
  refine hw_1 (fun k => x_if_eq (tgt := 27) dJ25_equals_4 (by decide) (fun z => absurd z (show ¬ ((1 : Int) = 0) from (by decide))) (fun _ => k)) ?_
  refine hw_1 (fun k => x_aload_n dJ25_equals_7 rfl k) ?_
  replace h := ga_ck_some h; obtain ⟨hc8_0, h⟩ := h
  refine hw_1 (fun k => x_getf (v := D x0 0) dJ25_equals_8 fl_J25_205 hc8_0 rfl k) ?_
  refine hw_1 (fun k => x_aload_n dJ25_equals_11 rfl k) ?_
  refine hw_1 (fun k => x_cast (cN := 70) dJ25_equals_12 q3150 (Or.inr hc1_0) rfl (Or.inl rfl) k) ?_
  replace h := ga_bind_some h; obtain ⟨r15, D15, g15, h⟩ := h
  have hR15 := (h_J25_intValue_ok (G := G) hP g15)
  obtain ⟨hP15, hE15, -⟩ := id hR15
  refine hw_call (rest := [(0, D x0 0)]) hR15 (fun hc hk9 => x_callV (as := []) (rest := [(0, D x0 0)]) dJ25_equals_15 hc (lw_V q3151 q3152 q3153 q476 q3154) hc1_0 rfl rfl (show _ ∧ _ ∧ _ ∧ _ = some 0 from by decide +kernel) (by decide) (by decide) rfl (Nat.le_of_ble_eq_true rfl) hk9 aw_nox) ?_
  by_cases c18 : D x0 0 ≠ r15
  · rw [if_pos c18] at h
    refine hw_1 (fun k => x_icmp_ne (tgt := 25) dJ25_equals_18 (by decide) (fun _ => k) (fun z => absurd c18 z)) ?_
    refine hw_1 (fun k => x_iconst dJ25_equals_25 (by decide) k) ?_
    obtain ⟨rfl, rfl⟩ := ga_end h
    exact hw_ret hP15 (x_iret dJ25_equals_26 rfl rfl (show (0 : Int) ≤ 0 ∧ (0 : Int) < 2 from by decide) hq)
  · rw [if_neg c18] at h
    refine hw_1 (fun k => x_icmp_ne (tgt := 25) dJ25_equals_18 (by decide) (fun z => absurd z c18) (fun _ => k)) ?_
    refine hw_1 (fun k => x_iconst dJ25_equals_21 (by decide) k) ?_
    refine hw_1 (fun k => x_goto (tgt := 26) dJ25_equals_22 (by decide) k) ?_
    obtain ⟨rfl, rfl⟩ := ga_end h
    exact hw_ret hP15 (x_iret dJ25_equals_26 rfl rfl (show (0 : Int) ≤ 1 ∧ (1 : Int) < 2 from by decide) hq)
theorem h_J30_longValue_ok {G : aw_G} {D D' : ga_D} {r : Int} {x0 : Int} (hP : h_P D) (h : h_J30_longValue x0 D = some (r, D')) : aw_HR yJ30_longValue cJ30_longValue 1 (some (.long)) 0 G [(2, x0)] D (some (1, r)) D' := by
  unfold h_J30_longValue at h
  refine hw_body (own := "java/lang/Long") (ini := false) (ls := [(0, (2, x0))]) rfl rfl (fun h => by cases h) (Nat.le_of_ble_eq_true rfl) rfl fun Q hq => ?_
  refine hw_1 (fun k => x_aload_n dJ30_longValue_0 rfl k) ?_
  replace h := ga_ck_some h; obtain ⟨hc1_0, h⟩ := h
  refine hw_1 (fun k => x_getf (v := D x0 0) dJ30_longValue_1 fl_J30_273 hc1_0 rfl k) ?_
  obtain ⟨rfl, rfl⟩ := ga_end h
  exact hw_ret hP (x_lret dJ30_longValue_4 rfl hq)
theorem h_J30_equals_ok {G : aw_G} {D D' : ga_D} {r : Int} {x0 x1 : Int} (hP : h_P D) (h : h_J30_equals x0 x1 D = some (r, D')) : aw_HR yJ30_equals cJ30_equals 2 (some (.boolean)) 1 G [(2, x0), (2, x1)] D (some (0, r)) D' := by
  unfold h_J30_equals at h
  refine hw_body (own := "java/lang/Long") (ini := false) (ls := [(0, (2, x0)), (1, (2, x1))]) rfl rfl (fun h => by cases h) (Nat.le_of_ble_eq_true rfl) rfl fun Q hq => ?_
  refine hw_1 (fun k => x_aload_n dJ30_equals_0 rfl k) ?_
  replace h := ga_ck_some h; obtain ⟨hc1_0, h⟩ := h
  refine hw_1 (fun k => x_instY (cN := 73) dJ30_equals_1 q3158 hc1_0 rfl (Or.inl rfl) k) ?_
  refine hw_1 (fun k => x_if_eq (tgt := 28) dJ30_equals_4 (by decide) (fun z => absurd z (show ¬ ((1 : Int) = 0) from (by decide))) (fun _ => k)) ?_
  refine hw_1 (fun k => x_aload_n dJ30_equals_7 rfl k) ?_
  replace h := ga_ck_some h; obtain ⟨hc8_0, h⟩ := h
  refine hw_1 (fun k => x_getf (v := D x0 0) dJ30_equals_8 fl_J30_273 hc8_0 rfl k) ?_
  refine hw_1 (fun k => x_aload_n dJ30_equals_11 rfl k) ?_
  refine hw_1 (fun k => x_cast (cN := 73) dJ30_equals_12 q3158 (Or.inr hc1_0) rfl (Or.inl rfl) k) ?_
  replace h := ga_bind_some h; obtain ⟨r15, D15, g15, h⟩ := h
  have hR15 := (h_J30_longValue_ok (G := G) hP g15)
  obtain ⟨hP15, hE15, -⟩ := id hR15
  refine hw_call (rest := [(1, D x0 0)]) hR15 (fun hc hk9 => x_callV (as := []) (rest := [(1, D x0 0)]) dJ30_equals_15 hc (lw_V q3159 q3160 q3161 q485 q3162) hc1_0 rfl rfl (show _ ∧ _ ∧ _ ∧ _ = some 0 from by decide +kernel) (by decide) (by decide) rfl (Nat.le_of_ble_eq_true rfl) hk9 aw_nox) ?_
  refine hw_1 (fun k => x_lcmp dJ30_equals_18 rfl k) ?_
  by_cases c19 : D x0 0 ≠ r15
  · rw [if_pos c19] at h
    refine hw_1 (fun k => x_if_ne (tgt := 26) dJ30_equals_19 (by decide) (fun _ => k) (fun z => absurd (cmi_ne.mpr c19) z)) ?_
    refine hw_1 (fun k => x_iconst dJ30_equals_26 (by decide) k) ?_
    obtain ⟨rfl, rfl⟩ := ga_end h
    exact hw_ret hP15 (x_iret dJ30_equals_27 rfl rfl (show (0 : Int) ≤ 0 ∧ (0 : Int) < 2 from by decide) hq)
  · rw [if_neg c19] at h
    refine hw_1 (fun k => x_if_ne (tgt := 26) dJ30_equals_19 (by decide) (fun z => absurd (cmi_ne.mp z) c19) (fun _ => k)) ?_
    refine hw_1 (fun k => x_iconst dJ30_equals_22 (by decide) k) ?_
    refine hw_1 (fun k => x_goto (tgt := 27) dJ30_equals_23 (by decide) k) ?_
    obtain ⟨rfl, rfl⟩ := ga_end h
    exact hw_ret hP15 (x_iret dJ30_equals_27 rfl rfl (show (0 : Int) ≤ 1 ∧ (1 : Int) < 2 from by decide) hq)
theorem h_J10_afterNodeAccess_ok {G : aw_G} {D D' : ga_D} {r : Int} {x0 x1 : Int} (hP : h_P D) (h : h_J10_afterNodeAccess x0 x1 D = some (r, D')) : aw_HR yJ10_afterNodeAccess cJ10_afterNodeAccess 2 none 0 G [(2, x0), (2, x1)] D none D' := by
  unfold h_J10_afterNodeAccess at h
  refine hw_body (own := "java/util/HashMap") (ini := false) (ls := [(0, (2, x0)), (1, (2, x1))]) rfl rfl (fun h => by cases h) (Nat.le_of_ble_eq_true rfl) rfl fun Q hq => ?_
  obtain ⟨rfl, rfl⟩ := ga_end h
  exact hw_ret hP (x_vret dJ10_afterNodeAccess_0 rfl hq)
theorem h_J10_afterNodeInsertion_ok {G : aw_G} {D D' : ga_D} {r : Int} {x0 x1 : Int} (hP : h_P D) (h : h_J10_afterNodeInsertion x0 x1 D = some (r, D')) : aw_HR yJ10_afterNodeInsertion cJ10_afterNodeInsertion 2 none 0 G [(2, x0), (0, x1)] D none D' := by
  unfold h_J10_afterNodeInsertion at h
  refine hw_body (own := "java/util/HashMap") (ini := false) (ls := [(0, (2, x0)), (1, (0, x1))]) rfl rfl (fun h => by cases h) (Nat.le_of_ble_eq_true rfl) rfl fun Q hq => ?_
  obtain ⟨rfl, rfl⟩ := ga_end h
  exact hw_ret hP (x_vret dJ10_afterNodeInsertion_0 rfl hq)
theorem h_J10_putVal_l134_ok {G : aw_G} {M0 : aw_M} {D' : ga_D} {Q : Option aw_V → aw_M → Prop} {r : Int} (hq : Q (some (2, r)) (hM D')) {k145 : Int → Int → Int → Int → Int → Int → Int → Int → Int → Int → ga_D → ga_S} {k209 : Int → Int → Int → Int → Int → ga_D → ga_S} {k222 : Int → Int → Int → Int → Int → ga_D → ga_S} (hk145 : ∀ (x0 x1 x2 x3 x4 x5 x6 x7 x10 x12 : Int) (D : ga_D), h_P D → k145 x0 x1 x2 x3 x4 x5 x6 x7 x10 x12 D = some (r, D') → aw_HW G "java/util/HashMap" cJ10_putVal (some (.object "java/lang/Object")) 13 3 false M0 Q aw_no D' (hn D') (hsl D') 145 [(0, (2, x0)), (1, (0, x1)), (2, (2, x2)), (3, (2, x3)), (4, (0, x4)), (5, (0, x5)), (6, (2, x6)), (7, (2, x7)), (10, (2, x10)), (12, (0, x12))] [] D) (hk209 : ∀ (x0 x3 x4 x5 x10 : Int) (D : ga_D), h_P D → k209 x0 x3 x4 x5 x10 D = some (r, D') → aw_HW G "java/util/HashMap" cJ10_putVal (some (.object "java/lang/Object")) 13 3 false M0 Q aw_no D' (hn D') (hsl D') 209 [(0, (2, x0)), (3, (2, x3)), (4, (0, x4)), (5, (0, x5)), (10, (2, x10))] [] D) (hk222 : ∀ (x0 x3 x4 x5 x10 : Int) (D : ga_D), h_P D → k222 x0 x3 x4 x5 x10 D = some (r, D') → aw_HW G "java/util/HashMap" cJ10_putVal (some (.object "java/lang/Object")) 13 3 false M0 Q aw_no D' (hn D') (hsl D') 222 [(0, (2, x0)), (3, (2, x3)), (4, (0, x4)), (5, (0, x5)), (10, (2, x10))] [] D) : ∀ {n : Nat} {x0 x1 x2 x3 x4 x5 x6 x7 x12 : Int} {D : ga_D}, h_P D → h_J10_putVal_l134 n x0 x1 x2 x3 x4 x5 x6 x7 x12 D k145 k209 k222 = some (r, D') → aw_HW G "java/util/HashMap" cJ10_putVal (some (.object "java/lang/Object")) 13 3 false M0 Q aw_no D' (hn D') (hsl D') 134 [(0, (2, x0)), (1, (0, x1)), (2, (2, x2)), (3, (2, x3)), (4, (0, x4)), (5, (0, x5)), (6, (2, x6)), (7, (2, x7)), (12, (0, x12))] [] D := by
  intro n
  induction n with
  | zero => intro x0 x1 x2 x3 x4 x5 x6 x7 x12 D hP h; exact absurd (h : (none : ga_S) = some (r, D')) (by intro h; cases h)
  | succ n ih =>
    intro x0 x1 x2 x3 x4 x5 x6 x7 x12 D hP h
    have ih : ∀ (x0 x1 x2 x3 x4 x5 x6 x7 x12 : Int) (D : ga_D), h_P D → h_J10_putVal_l134 n x0 x1 x2 x3 x4 x5 x6 x7 x12 D k145 k209 k222 = some (r, D') → aw_HW G "java/util/HashMap" cJ10_putVal (some (.object "java/lang/Object")) 13 3 false M0 Q aw_no D' (hn D') (hsl D') 134 [(0, (2, x0)), (1, (0, x1)), (2, (2, x2)), (3, (2, x3)), (4, (0, x4)), (5, (0, x5)), (6, (2, x6)), (7, (2, x7)), (12, (0, x12))] [] D := fun x0 x1 x2 x3 x4 x5 x6 x7 x12 D hP h => ih hP h
    replace h : (ga_ck (hk D x7 = (74, 0)) (ga_let (D x7 3) (fun v140 => if D x7 3 ≠ 0 then (ga_ck (hk D v140 = (74, 0)) (if D v140 0 ≠ x1 then (ga_let (aw_w32 (x12 + 1)) (fun v216 => h_J10_putVal_l134 n x0 x1 x2 x3 x4 x5 x6 v140 v216 D k145 k209 k222)) else (ga_let (D v140 1) (fun v190 => ga_ck (D v140 1 = 0 ∨ 4096 ≤ D v140 1 ∨ x2 = 0 ∨ 4096 ≤ x2 ∨ D v140 1 = x2) (if D v140 1 = x2 then (k222 x0 x3 x4 x5 v140 D) else (if x2 = 0 then (ga_let (aw_w32 (x12 + 1)) (fun v216 => h_J10_putVal_l134 n x0 x1 x2 x3 x4 x5 x6 v140 v216 D k145 k209 k222)) else (ga_bind (if hk D x2 = (0, 0) then (none) else if hk D x2 = (1, 0) then (none) else if hk D x2 = (2, 0) then (none) else if hk D x2 = (3, 0) then (none) else if hk D x2 = (4, 0) then (none) else if hk D x2 = (5, 0) then (none) else if hk D x2 = (6, 0) then (none) else if hk D x2 = (7, 0) then (none) else if hk D x2 = (8, 0) then (none) else if hk D x2 = (9, 0) then (none) else if hk D x2 = (10, 0) then (none) else if hk D x2 = (11, 0) then (none) else if hk D x2 = (12, 0) then (none) else if hk D x2 = (13, 0) then (none) else if hk D x2 = (14, 0) then (none) else if hk D x2 = (15, 0) then (none) else if hk D x2 = (16, 0) then (none) else if hk D x2 = (17, 0) then (none) else if hk D x2 = (18, 0) then (none) else if hk D x2 = (19, 0) then (none) else if hk D x2 = (20, 0) then (none) else if hk D x2 = (21, 0) then (none) else if hk D x2 = (22, 0) then (none) else if hk D x2 = (23, 0) then (none) else if hk D x2 = (24, 0) then (none) else if hk D x2 = (25, 0) then (none) else if hk D x2 = (26, 0) then (none) else if hk D x2 = (27, 0) then (none) else if hk D x2 = (28, 0) then (none) else if hk D x2 = (29, 0) then (none) else if hk D x2 = (30, 0) then (none) else if hk D x2 = (31, 0) then (none) else if hk D x2 = (32, 0) then (none) else if hk D x2 = (33, 0) then (none) else if hk D x2 = (34, 0) then (none) else if hk D x2 = (35, 0) then (none) else if hk D x2 = (36, 0) then (none) else if hk D x2 = (37, 0) then (none) else if hk D x2 = (38, 0) then (none) else if hk D x2 = (39, 0) then (none) else if hk D x2 = (40, 0) then (none) else if hk D x2 = (41, 0) then (none) else if hk D x2 = (42, 0) then (none) else if hk D x2 = (43, 0) then (none) else if hk D x2 = (44, 0) then (none) else if hk D x2 = (45, 0) then (none) else if hk D x2 = (46, 0) then (none) else if hk D x2 = (47, 0) then (none) else if hk D x2 = (48, 0) then (none) else if hk D x2 = (49, 0) then (none) else if hk D x2 = (50, 0) then (none) else if hk D x2 = (51, 0) then (none) else if hk D x2 = (52, 0) then (none) else if hk D x2 = (53, 0) then (none) else if hk D x2 = (54, 0) then (none) else if hk D x2 = (55, 0) then (none) else if hk D x2 = (56, 0) then (none) else if hk D x2 = (57, 0) then (none) else if hk D x2 = (58, 0) then (none) else if hk D x2 = (59, 0) then (none) else if hk D x2 = (66, 0) then (none) else if hk D x2 = (67, 0) then (none) else if hk D x2 = (68, 0) then (none) else if hk D x2 = (69, 0) then (h_J20_equals x2 v190 D) else if hk D x2 = (70, 0) then (h_J25_equals x2 v190 D) else if hk D x2 = (72, 0) then (none) else if hk D x2 = (73, 0) then (h_J30_equals x2 v190 D) else none) (fun r203 D203 => if r203 = 0 then (ga_let (aw_w32 (x12 + 1)) (fun v216 => h_J10_putVal_l134 n x0 x1 x2 x3 x4 x5 x6 v140 v216 D203 k145 k209 k222)) else (k209 x0 x3 x4 x5 v140 D203))))))))) else (k145 x0 x1 x2 x3 x4 x5 x6 x7 v140 x12 D))) : ga_S) = some (r, D') := h
    refine hw_1 (fun k => x_aload dJ10_putVal_134 rfl k) ?_
    replace h := ga_ck_some h; obtain ⟨hc136_0, h⟩ := h
    refine hw_1 (fun k => x_getf (v := D x7 3) dJ10_putVal_136 fl_J10_177 hc136_0 rfl k) ?_
    refine hw_1 (fun k => x_dup dJ10_putVal_139 rfl k) ?_
    replace h := ga_let_some h; obtain ⟨v140, ev140, h⟩ := h
    refine hw_nm ev140 ?_
    refine hw_1 (fun k => x_astore (ls' := [(10, (2, v140)), (0, (2, x0)), (1, (0, x1)), (2, (2, x2)), (3, (2, x3)), (4, (0, x4)), (5, (0, x5)), (6, (2, x6)), (7, (2, x7)), (12, (0, x12))]) dJ10_putVal_140 (by decide) rfl k) ?_
    by_cases c142 : D x7 3 ≠ 0
    · rw [if_pos c142] at h
      refine hw_1 (fun k => x_ifnonnull (tgt := 175) dJ10_putVal_142 (by decide) (fun _ => k) (fun z => absurd c142 z)) ?_
      refine hw_1 (fun k => x_aload dJ10_putVal_175 rfl k) ?_
      replace h := ga_ck_some h; obtain ⟨hc177_0, h⟩ := h
      refine hw_1 (fun k => x_getf (v := D v140 0) dJ10_putVal_177 fl_J10_168 hc177_0 rfl k) ?_
      refine hw_1 (fun k => x_iload_n dJ10_putVal_180 rfl k) ?_
      by_cases c181 : D v140 0 ≠ x1
      · rw [if_pos c181] at h
        refine hw_1 (fun k => x_icmp_ne (tgt := 212) dJ10_putVal_181 (by decide) (fun _ => k) (fun z => absurd c181 z)) ?_
        refine hw_1 (fun k => x_aload dJ10_putVal_212 rfl k) ?_
        refine hw_1 (fun k => x_astore (ls' := [(7, (2, v140)), (10, (2, v140)), (0, (2, x0)), (1, (0, x1)), (2, (2, x2)), (3, (2, x3)), (4, (0, x4)), (5, (0, x5)), (6, (2, x6)), (12, (0, x12))]) dJ10_putVal_214 (by decide) rfl k) ?_
        replace h := ga_let_some h; obtain ⟨v216, ev216, h⟩ := h
        refine hw_1 (fun k => x_iinc (ls' := [(12, (0, v216)), (7, (2, v140)), (10, (2, v140)), (0, (2, x0)), (1, (0, x1)), (2, (2, x2)), (3, (2, x3)), (4, (0, x4)), (5, (0, x5)), (6, (2, x6))]) dJ10_putVal_216 rfl ev216.symm (by decide) rfl k) ?_
        refine hw_1 (fun k => x_goto (tgt := 134) dJ10_putVal_219 (by decide) k) ?_
        refine hw_locs [3, 4, 5, 6, 7, 8, 9, 1, 0] (ls' := [(0, (2, x0)), (1, (0, x1)), (2, (2, x2)), (3, (2, x3)), (4, (0, x4)), (5, (0, x5)), (6, (2, x6)), (7, (2, v140)), (12, (0, v216))]) rfl ?_
        exact ih _ _ _ _ _ _ _ _ _ _ hP h
      · rw [if_neg c181] at h
        refine hw_1 (fun k => x_icmp_ne (tgt := 212) dJ10_putVal_181 (by decide) (fun z => absurd z c181) (fun _ => k)) ?_
        refine hw_1 (fun k => x_aload dJ10_putVal_184 rfl k) ?_
        refine hw_1 (fun k => x_getf (v := D v140 1) dJ10_putVal_186 fl_J10_170 hc177_0 rfl k) ?_
        refine hw_1 (fun k => x_dup dJ10_putVal_189 rfl k) ?_
        replace h := ga_let_some h; obtain ⟨v190, ev190, h⟩ := h
        refine hw_nm ev190 ?_
        refine hw_1 (fun k => x_astore (ls' := [(11, (2, v190)), (10, (2, v140)), (0, (2, x0)), (1, (0, x1)), (2, (2, x2)), (3, (2, x3)), (4, (0, x4)), (5, (0, x5)), (6, (2, x6)), (7, (2, x7)), (12, (0, x12))]) dJ10_putVal_190 (by decide) rfl k) ?_
        refine hw_1 (fun k => x_aload_n dJ10_putVal_192 rfl k) ?_
        replace h := ga_ck_some h; obtain ⟨hc193_0, h⟩ := h
        by_cases c193 : D v140 1 = x2
        · rw [if_pos c193] at h
          refine hw_1 (fun k => x_acmp_eq (tgt := 222) dJ10_putVal_193 (by decide) hc193_0 (fun _ => k) (fun z => absurd c193 z)) ?_
          refine hw_locs [2, 5, 6, 7, 1] (ls' := [(0, (2, x0)), (3, (2, x3)), (4, (0, x4)), (5, (0, x5)), (10, (2, v140))]) rfl ?_
          exact hk222 _ _ _ _ _ _ hP h
        · rw [if_neg c193] at h
          refine hw_1 (fun k => x_acmp_eq (tgt := 222) dJ10_putVal_193 (by decide) hc193_0 (fun z => absurd z c193) (fun _ => k)) ?_
          refine hw_1 (fun k => x_aload_n dJ10_putVal_196 rfl k) ?_
          by_cases c197 : x2 = 0
          · rw [if_pos c197] at h
            refine hw_1 (fun k => x_ifnull (tgt := 212) dJ10_putVal_197 (by decide) (fun _ => k) (fun z => absurd c197 z)) ?_
            refine hw_1 (fun k => x_aload dJ10_putVal_212 rfl k) ?_
            refine hw_1 (fun k => x_astore (ls' := [(7, (2, v140)), (11, (2, v190)), (10, (2, v140)), (0, (2, x0)), (1, (0, x1)), (2, (2, x2)), (3, (2, x3)), (4, (0, x4)), (5, (0, x5)), (6, (2, x6)), (12, (0, x12))]) dJ10_putVal_214 (by decide) rfl k) ?_
            replace h := ga_let_some h; obtain ⟨v216, ev216, h⟩ := h
            refine hw_1 (fun k => x_iinc (ls' := [(12, (0, v216)), (7, (2, v140)), (11, (2, v190)), (10, (2, v140)), (0, (2, x0)), (1, (0, x1)), (2, (2, x2)), (3, (2, x3)), (4, (0, x4)), (5, (0, x5)), (6, (2, x6))]) dJ10_putVal_216 rfl ev216.symm (by decide) rfl k) ?_
            refine hw_1 (fun k => x_goto (tgt := 134) dJ10_putVal_219 (by decide) k) ?_
            refine hw_locs [4, 5, 6, 7, 8, 9, 10, 1, 0] (ls' := [(0, (2, x0)), (1, (0, x1)), (2, (2, x2)), (3, (2, x3)), (4, (0, x4)), (5, (0, x5)), (6, (2, x6)), (7, (2, v140)), (12, (0, v216))]) rfl ?_
            exact ih _ _ _ _ _ _ _ _ _ _ hP h
          · rw [if_neg c197] at h
            refine hw_1 (fun k => x_ifnull (tgt := 212) dJ10_putVal_197 (by decide) (fun z => absurd z c197) (fun _ => k)) ?_
            refine hw_1 (fun k => x_aload_n dJ10_putVal_200 rfl k) ?_
            refine hw_1 (fun k => x_aload dJ10_putVal_201 rfl k) ?_
            replace h := ga_bind_some h; obtain ⟨r203, D203, g203, h⟩ := h
            have hS203 : h_P D203 ∧ h_E D D203 ∧ ∃ mc ms : Nat, hn D + mc = hn D203 ∧ hsl D + ms = hsl D203 ∧ ∀ {c sl : Nat}, aw_W G "java/util/HashMap" cJ10_putVal (some (.object "java/lang/Object")) 13 3 false M0 Q aw_no c sl 206 [(11, (2, v190)), (10, (2, v140)), (0, (2, x0)), (1, (0, x1)), (2, (2, x2)), (3, (2, x3)), (4, (0, x4)), (5, (0, x5)), (6, (2, x6)), (7, (2, x7)), (12, (0, x12))] [(0, r203)] (hM D203) → aw_W G "java/util/HashMap" cJ10_putVal (some (.object "java/lang/Object")) 13 3 false M0 Q aw_no (c + mc) (sl + ms) 203 [(11, (2, v190)), (10, (2, v140)), (0, (2, x0)), (1, (0, x1)), (2, (2, x2)), (3, (2, x3)), (4, (0, x4)), (5, (0, x5)), (6, (2, x6)), (7, (2, x7)), (12, (0, x12))] [(2, v190), (2, x2)] (hM D) := by
              by_cases w203_0 : hk D x2 = (0, 0)
              · rw [if_pos w203_0] at g203
                exact absurd g203 (by intro h; cases h)
              rw [if_neg w203_0] at g203
              by_cases w203_1 : hk D x2 = (1, 0)
              · rw [if_pos w203_1] at g203
                exact absurd g203 (by intro h; cases h)
              rw [if_neg w203_1] at g203
              by_cases w203_2 : hk D x2 = (2, 0)
              · rw [if_pos w203_2] at g203
                exact absurd g203 (by intro h; cases h)
              rw [if_neg w203_2] at g203
              by_cases w203_3 : hk D x2 = (3, 0)
              · rw [if_pos w203_3] at g203
                exact absurd g203 (by intro h; cases h)
              rw [if_neg w203_3] at g203
              by_cases w203_4 : hk D x2 = (4, 0)
              · rw [if_pos w203_4] at g203
                exact absurd g203 (by intro h; cases h)
              rw [if_neg w203_4] at g203
              by_cases w203_5 : hk D x2 = (5, 0)
              · rw [if_pos w203_5] at g203
                exact absurd g203 (by intro h; cases h)
              rw [if_neg w203_5] at g203
              by_cases w203_6 : hk D x2 = (6, 0)
              · rw [if_pos w203_6] at g203
                exact absurd g203 (by intro h; cases h)
              rw [if_neg w203_6] at g203
              by_cases w203_7 : hk D x2 = (7, 0)
              · rw [if_pos w203_7] at g203
                exact absurd g203 (by intro h; cases h)
              rw [if_neg w203_7] at g203
              by_cases w203_8 : hk D x2 = (8, 0)
              · rw [if_pos w203_8] at g203
                exact absurd g203 (by intro h; cases h)
              rw [if_neg w203_8] at g203
              by_cases w203_9 : hk D x2 = (9, 0)
              · rw [if_pos w203_9] at g203
                exact absurd g203 (by intro h; cases h)
              rw [if_neg w203_9] at g203
              by_cases w203_10 : hk D x2 = (10, 0)
              · rw [if_pos w203_10] at g203
                exact absurd g203 (by intro h; cases h)
              rw [if_neg w203_10] at g203
              by_cases w203_11 : hk D x2 = (11, 0)
              · rw [if_pos w203_11] at g203
                exact absurd g203 (by intro h; cases h)
              rw [if_neg w203_11] at g203
              by_cases w203_12 : hk D x2 = (12, 0)
              · rw [if_pos w203_12] at g203
                exact absurd g203 (by intro h; cases h)
              rw [if_neg w203_12] at g203
              by_cases w203_13 : hk D x2 = (13, 0)
              · rw [if_pos w203_13] at g203
                exact absurd g203 (by intro h; cases h)
              rw [if_neg w203_13] at g203
              by_cases w203_14 : hk D x2 = (14, 0)
              · rw [if_pos w203_14] at g203
                exact absurd g203 (by intro h; cases h)
              rw [if_neg w203_14] at g203
              by_cases w203_15 : hk D x2 = (15, 0)
              · rw [if_pos w203_15] at g203
                exact absurd g203 (by intro h; cases h)
              rw [if_neg w203_15] at g203
              by_cases w203_16 : hk D x2 = (16, 0)
              · rw [if_pos w203_16] at g203
                exact absurd g203 (by intro h; cases h)
              rw [if_neg w203_16] at g203
              by_cases w203_17 : hk D x2 = (17, 0)
              · rw [if_pos w203_17] at g203
                exact absurd g203 (by intro h; cases h)
              rw [if_neg w203_17] at g203
              by_cases w203_18 : hk D x2 = (18, 0)
              · rw [if_pos w203_18] at g203
                exact absurd g203 (by intro h; cases h)
              rw [if_neg w203_18] at g203
              by_cases w203_19 : hk D x2 = (19, 0)
              · rw [if_pos w203_19] at g203
                exact absurd g203 (by intro h; cases h)
              rw [if_neg w203_19] at g203
              by_cases w203_20 : hk D x2 = (20, 0)
              · rw [if_pos w203_20] at g203
                exact absurd g203 (by intro h; cases h)
              rw [if_neg w203_20] at g203
              by_cases w203_21 : hk D x2 = (21, 0)
              · rw [if_pos w203_21] at g203
                exact absurd g203 (by intro h; cases h)
              rw [if_neg w203_21] at g203
              by_cases w203_22 : hk D x2 = (22, 0)
              · rw [if_pos w203_22] at g203
                exact absurd g203 (by intro h; cases h)
              rw [if_neg w203_22] at g203
              by_cases w203_23 : hk D x2 = (23, 0)
              · rw [if_pos w203_23] at g203
                exact absurd g203 (by intro h; cases h)
              rw [if_neg w203_23] at g203
              by_cases w203_24 : hk D x2 = (24, 0)
              · rw [if_pos w203_24] at g203
                exact absurd g203 (by intro h; cases h)
              rw [if_neg w203_24] at g203
              by_cases w203_25 : hk D x2 = (25, 0)
              · rw [if_pos w203_25] at g203
                exact absurd g203 (by intro h; cases h)
              rw [if_neg w203_25] at g203
              by_cases w203_26 : hk D x2 = (26, 0)
              · rw [if_pos w203_26] at g203
                exact absurd g203 (by intro h; cases h)
              rw [if_neg w203_26] at g203
              by_cases w203_27 : hk D x2 = (27, 0)
              · rw [if_pos w203_27] at g203
                exact absurd g203 (by intro h; cases h)
              rw [if_neg w203_27] at g203
              by_cases w203_28 : hk D x2 = (28, 0)
              · rw [if_pos w203_28] at g203
                exact absurd g203 (by intro h; cases h)
              rw [if_neg w203_28] at g203
              by_cases w203_29 : hk D x2 = (29, 0)
              · rw [if_pos w203_29] at g203
                exact absurd g203 (by intro h; cases h)
              rw [if_neg w203_29] at g203
              by_cases w203_30 : hk D x2 = (30, 0)
              · rw [if_pos w203_30] at g203
                exact absurd g203 (by intro h; cases h)
              rw [if_neg w203_30] at g203
              by_cases w203_31 : hk D x2 = (31, 0)
              · rw [if_pos w203_31] at g203
                exact absurd g203 (by intro h; cases h)
              rw [if_neg w203_31] at g203
              by_cases w203_32 : hk D x2 = (32, 0)
              · rw [if_pos w203_32] at g203
                exact absurd g203 (by intro h; cases h)
              rw [if_neg w203_32] at g203
              by_cases w203_33 : hk D x2 = (33, 0)
              · rw [if_pos w203_33] at g203
                exact absurd g203 (by intro h; cases h)
              rw [if_neg w203_33] at g203
              by_cases w203_34 : hk D x2 = (34, 0)
              · rw [if_pos w203_34] at g203
                exact absurd g203 (by intro h; cases h)
              rw [if_neg w203_34] at g203
              by_cases w203_35 : hk D x2 = (35, 0)
              · rw [if_pos w203_35] at g203
                exact absurd g203 (by intro h; cases h)
              rw [if_neg w203_35] at g203
              by_cases w203_36 : hk D x2 = (36, 0)
              · rw [if_pos w203_36] at g203
                exact absurd g203 (by intro h; cases h)
              rw [if_neg w203_36] at g203
              by_cases w203_37 : hk D x2 = (37, 0)
              · rw [if_pos w203_37] at g203
                exact absurd g203 (by intro h; cases h)
              rw [if_neg w203_37] at g203
              by_cases w203_38 : hk D x2 = (38, 0)
              · rw [if_pos w203_38] at g203
                exact absurd g203 (by intro h; cases h)
              rw [if_neg w203_38] at g203
              by_cases w203_39 : hk D x2 = (39, 0)
              · rw [if_pos w203_39] at g203
                exact absurd g203 (by intro h; cases h)
              rw [if_neg w203_39] at g203
              by_cases w203_40 : hk D x2 = (40, 0)
              · rw [if_pos w203_40] at g203
                exact absurd g203 (by intro h; cases h)
              rw [if_neg w203_40] at g203
              by_cases w203_41 : hk D x2 = (41, 0)
              · rw [if_pos w203_41] at g203
                exact absurd g203 (by intro h; cases h)
              rw [if_neg w203_41] at g203
              by_cases w203_42 : hk D x2 = (42, 0)
              · rw [if_pos w203_42] at g203
                exact absurd g203 (by intro h; cases h)
              rw [if_neg w203_42] at g203
              by_cases w203_43 : hk D x2 = (43, 0)
              · rw [if_pos w203_43] at g203
                exact absurd g203 (by intro h; cases h)
              rw [if_neg w203_43] at g203
              by_cases w203_44 : hk D x2 = (44, 0)
              · rw [if_pos w203_44] at g203
                exact absurd g203 (by intro h; cases h)
              rw [if_neg w203_44] at g203
              by_cases w203_45 : hk D x2 = (45, 0)
              · rw [if_pos w203_45] at g203
                exact absurd g203 (by intro h; cases h)
              rw [if_neg w203_45] at g203
              by_cases w203_46 : hk D x2 = (46, 0)
              · rw [if_pos w203_46] at g203
                exact absurd g203 (by intro h; cases h)
              rw [if_neg w203_46] at g203
              by_cases w203_47 : hk D x2 = (47, 0)
              · rw [if_pos w203_47] at g203
                exact absurd g203 (by intro h; cases h)
              rw [if_neg w203_47] at g203
              by_cases w203_48 : hk D x2 = (48, 0)
              · rw [if_pos w203_48] at g203
                exact absurd g203 (by intro h; cases h)
              rw [if_neg w203_48] at g203
              by_cases w203_49 : hk D x2 = (49, 0)
              · rw [if_pos w203_49] at g203
                exact absurd g203 (by intro h; cases h)
              rw [if_neg w203_49] at g203
              by_cases w203_50 : hk D x2 = (50, 0)
              · rw [if_pos w203_50] at g203
                exact absurd g203 (by intro h; cases h)
              rw [if_neg w203_50] at g203
              by_cases w203_51 : hk D x2 = (51, 0)
              · rw [if_pos w203_51] at g203
                exact absurd g203 (by intro h; cases h)
              rw [if_neg w203_51] at g203
              by_cases w203_52 : hk D x2 = (52, 0)
              · rw [if_pos w203_52] at g203
                exact absurd g203 (by intro h; cases h)
              rw [if_neg w203_52] at g203
              by_cases w203_53 : hk D x2 = (53, 0)
              · rw [if_pos w203_53] at g203
                exact absurd g203 (by intro h; cases h)
              rw [if_neg w203_53] at g203
              by_cases w203_54 : hk D x2 = (54, 0)
              · rw [if_pos w203_54] at g203
                exact absurd g203 (by intro h; cases h)
              rw [if_neg w203_54] at g203
              by_cases w203_55 : hk D x2 = (55, 0)
              · rw [if_pos w203_55] at g203
                exact absurd g203 (by intro h; cases h)
              rw [if_neg w203_55] at g203
              by_cases w203_56 : hk D x2 = (56, 0)
              · rw [if_pos w203_56] at g203
                exact absurd g203 (by intro h; cases h)
              rw [if_neg w203_56] at g203
              by_cases w203_57 : hk D x2 = (57, 0)
              · rw [if_pos w203_57] at g203
                exact absurd g203 (by intro h; cases h)
              rw [if_neg w203_57] at g203
              by_cases w203_58 : hk D x2 = (58, 0)
              · rw [if_pos w203_58] at g203
                exact absurd g203 (by intro h; cases h)
              rw [if_neg w203_58] at g203
              by_cases w203_59 : hk D x2 = (59, 0)
              · rw [if_pos w203_59] at g203
                exact absurd g203 (by intro h; cases h)
              rw [if_neg w203_59] at g203
              by_cases w203_66 : hk D x2 = (66, 0)
              · rw [if_pos w203_66] at g203
                exact absurd g203 (by intro h; cases h)
              rw [if_neg w203_66] at g203
              by_cases w203_67 : hk D x2 = (67, 0)
              · rw [if_pos w203_67] at g203
                exact absurd g203 (by intro h; cases h)
              rw [if_neg w203_67] at g203
              by_cases w203_68 : hk D x2 = (68, 0)
              · rw [if_pos w203_68] at g203
                exact absurd g203 (by intro h; cases h)
              rw [if_neg w203_68] at g203
              by_cases w203_69 : hk D x2 = (69, 0)
              · rw [if_pos w203_69] at g203
                have hR := (h_J20_equals_ok (G := G) hP g203)
                exact hw_callM (rest := []) hR (fun hc hk9 => x_callU (C := "java/lang/String") (owner := "java/lang/Object") (as := [(2, v190)]) (rest := []) dJ10_putVal_203 hc q3049 q4057 q3079 (Or.inr q3076) q3163 q3047 q471 w203_69 rfl rfl (show _ ∧ _ ∧ _ = some 1 from by decide +kernel) (by decide) (by decide) rfl (Nat.le_of_ble_eq_true rfl) hk9 aw_nox)
              rw [if_neg w203_69] at g203
              by_cases w203_70 : hk D x2 = (70, 0)
              · rw [if_pos w203_70] at g203
                have hR := (h_J25_equals_ok (G := G) hP g203)
                exact hw_callM (rest := []) hR (fun hc hk9 => x_callU (C := "java/lang/Integer") (owner := "java/lang/Object") (as := [(2, v190)]) (rest := []) dJ10_putVal_203 hc q3149 q4057 q3079 (Or.inr q3076) q3147 q3148 q476 w203_70 rfl rfl (show _ ∧ _ ∧ _ = some 1 from by decide +kernel) (by decide) (by decide) rfl (Nat.le_of_ble_eq_true rfl) hk9 aw_nox)
              rw [if_neg w203_70] at g203
              by_cases w203_72 : hk D x2 = (72, 0)
              · rw [if_pos w203_72] at g203
                exact absurd g203 (by intro h; cases h)
              rw [if_neg w203_72] at g203
              by_cases w203_73 : hk D x2 = (73, 0)
              · rw [if_pos w203_73] at g203
                have hR := (h_J30_equals_ok (G := G) hP g203)
                exact hw_callM (rest := []) hR (fun hc hk9 => x_callU (C := "java/lang/Long") (owner := "java/lang/Object") (as := [(2, v190)]) (rest := []) dJ10_putVal_203 hc q3157 q4057 q3079 (Or.inr q3076) q3155 q3156 q485 w203_73 rfl rfl (show _ ∧ _ ∧ _ = some 1 from by decide +kernel) (by decide) (by decide) rfl (Nat.le_of_ble_eq_true rfl) hk9 aw_nox)
              rw [if_neg w203_73] at g203
              exact absurd g203 (by intro h; cases h)
            obtain ⟨hP203, hE203, hS203⟩ := hS203
            refine hw_go ⟨hE203, hS203⟩ ?_
            by_cases c206 : r203 = 0
            · rw [if_pos c206] at h
              refine hw_1 (fun k => x_if_eq (tgt := 212) dJ10_putVal_206 (by decide) (fun _ => k) (fun z => absurd c206 z)) ?_
              refine hw_1 (fun k => x_aload dJ10_putVal_212 rfl k) ?_
              refine hw_1 (fun k => x_astore (ls' := [(7, (2, v140)), (11, (2, v190)), (10, (2, v140)), (0, (2, x0)), (1, (0, x1)), (2, (2, x2)), (3, (2, x3)), (4, (0, x4)), (5, (0, x5)), (6, (2, x6)), (12, (0, x12))]) dJ10_putVal_214 (by decide) rfl k) ?_
              replace h := ga_let_some h; obtain ⟨v216, ev216, h⟩ := h
              refine hw_1 (fun k => x_iinc (ls' := [(12, (0, v216)), (7, (2, v140)), (11, (2, v190)), (10, (2, v140)), (0, (2, x0)), (1, (0, x1)), (2, (2, x2)), (3, (2, x3)), (4, (0, x4)), (5, (0, x5)), (6, (2, x6))]) dJ10_putVal_216 rfl ev216.symm (by decide) rfl k) ?_
              refine hw_1 (fun k => x_goto (tgt := 134) dJ10_putVal_219 (by decide) k) ?_
              refine hw_locs [4, 5, 6, 7, 8, 9, 10, 1, 0] (ls' := [(0, (2, x0)), (1, (0, x1)), (2, (2, x2)), (3, (2, x3)), (4, (0, x4)), (5, (0, x5)), (6, (2, x6)), (7, (2, v140)), (12, (0, v216))]) rfl ?_
              exact ih _ _ _ _ _ _ _ _ _ _ hP203 h
            · rw [if_neg c206] at h
              refine hw_1 (fun k => x_if_eq (tgt := 212) dJ10_putVal_206 (by decide) (fun z => absurd z c206) (fun _ => k)) ?_
              refine hw_locs [2, 5, 6, 7, 1] (ls' := [(0, (2, x0)), (3, (2, x3)), (4, (0, x4)), (5, (0, x5)), (10, (2, v140))]) rfl ?_
              exact hk209 _ _ _ _ _ _ hP203 h
    · rw [if_neg c142] at h
      refine hw_1 (fun k => x_ifnonnull (tgt := 175) dJ10_putVal_142 (by decide) (fun z => absurd z c142) (fun _ => k)) ?_
      refine hw_locs [1, 2, 3, 4, 5, 6, 7, 8, 0, 9] (ls' := [(0, (2, x0)), (1, (0, x1)), (2, (2, x2)), (3, (2, x3)), (4, (0, x4)), (5, (0, x5)), (6, (2, x6)), (7, (2, x7)), (10, (2, v140)), (12, (0, x12))]) rfl ?_
      exact hk145 _ _ _ _ _ _ _ _ _ _ _ hP h
theorem h_J10_putVal_j292_ok {G : aw_G} {M0 : aw_M} {D' : ga_D} {Q : Option aw_V → aw_M → Prop} {r : Int} (hq : Q (some (2, r)) (hM D')) {x0 x5 : Int} {D : ga_D} (hP : h_P D) (h : h_J10_putVal_j292 x0 x5 D = some (r, D')) : aw_HW G "java/util/HashMap" cJ10_putVal (some (.object "java/lang/Object")) 13 3 false M0 Q aw_no D' (hn D') (hsl D') 292 [(0, (2, x0)), (5, (0, x5))] [] D := by
  unfold h_J10_putVal_j292 at h
  refine hw_1 (fun k => x_aload_n dJ10_putVal_292 rfl k) ?_
  refine hw_1 (fun k => x_iload dJ10_putVal_293 rfl k) ?_
  replace h := ga_ck_some h; obtain ⟨hc295_0, h⟩ := h
  replace h := ga_bind_some h; obtain ⟨r295, D295, g295, h⟩ := h
  have hR295 := (h_J10_afterNodeInsertion_ok (G := G) hP g295)
  obtain ⟨hP295, hE295, -⟩ := id hR295
  refine hw_call (rest := []) hR295 (fun hc hk9 => x_callV (as := [(0, x5)]) (rest := []) dJ10_putVal_295 hc (lw_V q4121 q4122 q4123 q438 q4124) hc295_0 rfl rfl (show _ ∧ _ ∧ _ ∧ _ = some 1 from by decide +kernel) (by decide) (by decide) rfl (Nat.le_of_ble_eq_true rfl) hk9 aw_nox) ?_
  refine hw_1 (fun k => x_null dJ10_putVal_298 k) ?_
  obtain ⟨rfl, rfl⟩ := ga_end h
  exact hw_ret hP295 (x_aret dJ10_putVal_299 rfl (by first | exact Or.inl ⟨_, rfl⟩ | exact Or.inr ⟨_, rfl⟩) hq)
theorem h_J10_putVal_j259_ok {G : aw_G} {M0 : aw_M} {D' : ga_D} {Q : Option aw_V → aw_M → Prop} {r : Int} (hq : Q (some (2, r)) (hM D')) {x0 x5 : Int} {D : ga_D} (hP : h_P D) (h : h_J10_putVal_j259 x0 x5 D = some (r, D')) : aw_HW G "java/util/HashMap" cJ10_putVal (some (.object "java/lang/Object")) 13 3 false M0 Q aw_no D' (hn D') (hsl D') 259 [(0, (2, x0)), (5, (0, x5))] [] D := by
  unfold h_J10_putVal_j259 at h
  refine hw_1 (fun k => x_aload_n dJ10_putVal_259 rfl k) ?_
  refine hw_1 (fun k => x_dup dJ10_putVal_260 rfl k) ?_
  replace h := ga_ck_some h; obtain ⟨hc261_0, h⟩ := h
  refine hw_1 (fun k => x_getf (v := D x0 5) dJ10_putVal_261 fl_J10_202 hc261_0 rfl k) ?_
  refine hw_1 (fun k => x_iconst dJ10_putVal_264 (by decide) k) ?_
  refine hw_1 (fun k => x_iadd dJ10_putVal_265 rfl k) ?_
  replace h := ga_let_some h; obtain ⟨D266, eD266, h⟩ := h
  refine hw_set eD266 (Int.le_trans (by decide) (hkge_64 hc261_0)) (by decide) (fun k => x_putf dJ10_putVal_266 fl_J10_202 rfl hc261_0 (hkge_64 hc261_0) trivial k) ?_
  have hP266 : h_P D266 := hP.set eD266 (hkge_64 hc261_0) (by decide) (hPn hc261_0 rfl)
  have hE266 : h_E D D266 := h_E_set eD266 (by decide)
  refine hw_1 (fun k => x_aload_n dJ10_putVal_269 rfl k) ?_
  refine hw_1 (fun k => x_dup dJ10_putVal_270 rfl k) ?_
  refine hw_1 (fun k => x_getf (v := D266 x0 4) dJ10_putVal_271 fl_J10_156 (h_kx hE266 hc261_0 (by decide)) rfl k) ?_
  refine hw_1 (fun k => x_iconst dJ10_putVal_274 (by decide) k) ?_
  refine hw_1 (fun k => x_iadd dJ10_putVal_275 rfl k) ?_
  refine hw_1 (fun k => x_dup_x1 dJ10_putVal_276 rfl rfl k) ?_
  replace h := ga_let_some h; obtain ⟨D277, eD277, h⟩ := h
  refine hw_set eD277 (Int.le_trans (by decide) (hkge_64 (h_kx hE266 hc261_0 (by decide)))) (by decide) (fun k => x_putf dJ10_putVal_277 fl_J10_156 rfl (h_kx hE266 hc261_0 (by decide)) (hkge_64 (h_kx hE266 hc261_0 (by decide))) trivial k) ?_
  have hP277 : h_P D277 := hP266.set eD277 (hkge_64 (h_kx hE266 hc261_0 (by decide))) (by decide) (hPn (h_kx hE266 hc261_0 (by decide)) rfl)
  have hE277 : h_E D266 D277 := h_E_set eD277 (by decide)
  refine hw_1 (fun k => x_aload_n dJ10_putVal_280 rfl k) ?_
  refine hw_1 (fun k => x_getf (v := D277 x0 6) dJ10_putVal_281 fl_J10_88 (h_kx hE277 (h_kx hE266 hc261_0 (by decide)) (by decide)) rfl k) ?_
  by_cases c284 : aw_w32 ((D266 x0 4) + 1) ≤ D277 x0 6
  · rw [if_pos c284] at h
    refine hw_1 (fun k => x_icmp_le (tgt := 292) dJ10_putVal_284 (by decide) (fun _ => k) (fun z => absurd c284 z)) ?_
    refine h_J10_putVal_j292_ok hq hP277 h
  · rw [if_neg c284] at h
    refine hw_1 (fun k => x_icmp_le (tgt := 292) dJ10_putVal_284 (by decide) (fun z => absurd z c284) (fun _ => k)) ?_
    refine hw_1 (fun k => x_aload_n dJ10_putVal_287 rfl k) ?_
    replace h := ga_bind_some h; obtain ⟨r288, D288, g288, h⟩ := h
    have hR288 := (h_J10_resize_ok (G := G) hP277 g288)
    obtain ⟨hP288, hE288, -⟩ := id hR288
    refine hw_call (rest := []) hR288 (fun hc hk9 => x_callV (as := []) (rest := []) dJ10_putVal_288 hc (lw_V q3741 q3742 q3743 q438 q3744) (h_kx hE277 (h_kx hE266 hc261_0 (by decide)) (by decide)) rfl rfl (show _ ∧ _ ∧ _ ∧ _ = some 0 from by decide +kernel) (by decide) (by decide) rfl (Nat.le_of_ble_eq_true rfl) hk9 aw_nox) ?_
    refine hw_1 (fun k => x_pop dJ10_putVal_291 rfl k) ?_
    refine h_J10_putVal_j292_ok hq hP288 h
theorem h_J10_putVal_j250_ok {G : aw_G} {M0 : aw_M} {D' : ga_D} {Q : Option aw_V → aw_M → Prop} {r : Int} (hq : Q (some (2, r)) (hM D')) {x0 x10 x12 : Int} {D : ga_D} (hP : h_P D) (h : h_J10_putVal_j250 x0 x10 x12 D = some (r, D')) : aw_HW G "java/util/HashMap" cJ10_putVal (some (.object "java/lang/Object")) 13 3 false M0 Q aw_no D' (hn D') (hsl D') 250 [(0, (2, x0)), (10, (2, x10)), (12, (2, x12))] [] D := by
  unfold h_J10_putVal_j250 at h
  refine hw_1 (fun k => x_aload_n dJ10_putVal_250 rfl k) ?_
  refine hw_1 (fun k => x_aload dJ10_putVal_251 rfl k) ?_
  replace h := ga_ck_some h; obtain ⟨hc253_0, h⟩ := h
  replace h := ga_bind_some h; obtain ⟨r253, D253, g253, h⟩ := h
  have hR253 := (h_J10_afterNodeAccess_ok (G := G) hP g253)
  obtain ⟨hP253, hE253, -⟩ := id hR253
  refine hw_call (rest := []) hR253 (fun hc hk9 => x_callV (as := [(2, x10)]) (rest := []) dJ10_putVal_253 hc (lw_V q4117 q4118 q4119 q438 q4120) hc253_0 rfl rfl (show _ ∧ _ ∧ _ ∧ _ = some 1 from by decide +kernel) (by decide) (by decide) rfl (Nat.le_of_ble_eq_true rfl) hk9 aw_nox) ?_
  refine hw_1 (fun k => x_aload dJ10_putVal_256 rfl k) ?_
  obtain ⟨rfl, rfl⟩ := ga_end h
  exact hw_ret hP253 (x_aret dJ10_putVal_258 rfl (by first | exact Or.inl ⟨_, rfl⟩ | exact Or.inr ⟨_, rfl⟩) hq)
theorem h_J10_putVal_j244_ok {G : aw_G} {M0 : aw_M} {D' : ga_D} {Q : Option aw_V → aw_M → Prop} {r : Int} (hq : Q (some (2, r)) (hM D')) {x0 x3 x10 x12 : Int} {D : ga_D} (hP : h_P D) (h : h_J10_putVal_j244 x0 x3 x10 x12 D = some (r, D')) : aw_HW G "java/util/HashMap" cJ10_putVal (some (.object "java/lang/Object")) 13 3 false M0 Q aw_no D' (hn D') (hsl D') 244 [(0, (2, x0)), (3, (2, x3)), (10, (2, x10)), (12, (2, x12))] [] D := by
  unfold h_J10_putVal_j244 at h
  refine hw_1 (fun k => x_aload dJ10_putVal_244 rfl k) ?_
  refine hw_1 (fun k => x_aload_n dJ10_putVal_246 rfl k) ?_
  replace h := ga_ck_some h; obtain ⟨hc247_0, h⟩ := h
  replace h := ga_let_some h; obtain ⟨D247, eD247, h⟩ := h
  refine hw_set eD247 (Int.le_trans (by decide) (hkge_74 hc247_0)) (by decide) (fun k => x_putf dJ10_putVal_247 fl_J10_162 rfl hc247_0 (hkge_74 hc247_0) trivial k) ?_
  have hP247 : h_P D247 := hP.set eD247 (hkge_74 hc247_0) (by decide) (hPn hc247_0 rfl)
  have hE247 : h_E D D247 := h_E_set eD247 (by decide)
  refine hw_locs [0, 2, 3] (ls' := [(0, (2, x0)), (10, (2, x10)), (12, (2, x12))]) rfl ?_
  refine h_J10_putVal_j250_ok hq hP247 h
theorem h_J10_putVal_j222_ok {G : aw_G} {M0 : aw_M} {D' : ga_D} {Q : Option aw_V → aw_M → Prop} {r : Int} (hq : Q (some (2, r)) (hM D')) {x0 x3 x4 x5 x10 : Int} {D : ga_D} (hP : h_P D) (h : h_J10_putVal_j222 x0 x3 x4 x5 x10 D = some (r, D')) : aw_HW G "java/util/HashMap" cJ10_putVal (some (.object "java/lang/Object")) 13 3 false M0 Q aw_no D' (hn D') (hsl D') 222 [(0, (2, x0)), (3, (2, x3)), (4, (0, x4)), (5, (0, x5)), (10, (2, x10))] [] D := by
  unfold h_J10_putVal_j222 at h
  refine hw_1 (fun k => x_aload dJ10_putVal_222 rfl k) ?_
  by_cases c224 : x10 = 0
  · rw [if_pos c224] at h
    refine hw_1 (fun k => x_ifnull (tgt := 259) dJ10_putVal_224 (by decide) (fun _ => k) (fun z => absurd c224 z)) ?_
    refine hw_locs [0, 3] (ls' := [(0, (2, x0)), (5, (0, x5))]) rfl ?_
    refine h_J10_putVal_j259_ok hq hP h
  · rw [if_neg c224] at h
    refine hw_1 (fun k => x_ifnull (tgt := 259) dJ10_putVal_224 (by decide) (fun z => absurd z c224) (fun _ => k)) ?_
    refine hw_1 (fun k => x_aload dJ10_putVal_227 rfl k) ?_
    replace h := ga_ck_some h; obtain ⟨hc229_0, h⟩ := h
    refine hw_1 (fun k => x_getf (v := D x10 2) dJ10_putVal_229 fl_J10_162 hc229_0 rfl k) ?_
    replace h := ga_let_some h; obtain ⟨v232, ev232, h⟩ := h
    refine hw_nm ev232 ?_
    refine hw_1 (fun k => x_astore (ls' := [(12, (2, v232)), (0, (2, x0)), (3, (2, x3)), (4, (0, x4)), (5, (0, x5)), (10, (2, x10))]) dJ10_putVal_232 (by decide) rfl k) ?_
    refine hw_1 (fun k => x_iload dJ10_putVal_234 rfl k) ?_
    by_cases c236 : x4 = 0
    · rw [if_pos c236] at h
      refine hw_1 (fun k => x_if_eq (tgt := 244) dJ10_putVal_236 (by decide) (fun _ => k) (fun z => absurd c236 z)) ?_
      refine hw_locs [1, 2, 5, 0] (ls' := [(0, (2, x0)), (3, (2, x3)), (10, (2, x10)), (12, (2, v232))]) rfl ?_
      refine h_J10_putVal_j244_ok hq hP h
    · rw [if_neg c236] at h
      refine hw_1 (fun k => x_if_eq (tgt := 244) dJ10_putVal_236 (by decide) (fun z => absurd z c236) (fun _ => k)) ?_
      refine hw_1 (fun k => x_aload dJ10_putVal_239 rfl k) ?_
      by_cases c241 : v232 ≠ 0
      · rw [if_pos c241] at h
        refine hw_1 (fun k => x_ifnonnull (tgt := 250) dJ10_putVal_241 (by decide) (fun _ => k) (fun z => absurd c241 z)) ?_
        refine hw_locs [1, 5, 0] (ls' := [(0, (2, x0)), (10, (2, x10)), (12, (2, v232))]) rfl ?_
        refine h_J10_putVal_j250_ok hq hP h
      · rw [if_neg c241] at h
        refine hw_1 (fun k => x_ifnonnull (tgt := 250) dJ10_putVal_241 (by decide) (fun z => absurd z c241) (fun _ => k)) ?_
        refine hw_locs [1, 2, 5, 0] (ls' := [(0, (2, x0)), (3, (2, x3)), (10, (2, x10)), (12, (2, v232))]) rfl ?_
        refine h_J10_putVal_j244_ok hq hP h
theorem h_J10_putVal_j104_ok {G : aw_G} {M0 : aw_M} {D' : ga_D} {Q : Option aw_V → aw_M → Prop} {r : Int} (hq : Q (some (2, r)) (hM D')) {x0 x1 x2 x3 x4 x5 x6 x7 : Int} {D : ga_D} (hP : h_P D) (h : h_J10_putVal_j104 x0 x1 x2 x3 x4 x5 x6 x7 D = some (r, D')) : aw_HW G "java/util/HashMap" cJ10_putVal (some (.object "java/lang/Object")) 13 3 false M0 Q aw_no D' (hn D') (hsl D') 104 [(0, (2, x0)), (1, (0, x1)), (2, (2, x2)), (3, (2, x3)), (4, (0, x4)), (5, (0, x5)), (6, (2, x6)), (7, (2, x7))] [] D := by
  unfold h_J10_putVal_j104 at h
  refine hw_1 (fun k => x_aload dJ10_putVal_104 rfl k) ?_
  replace h := ga_ck_some h; obtain ⟨hc106_0, h⟩ := h
  refine hw_1 (fun k => x_instNo (cN := 74) dJ10_putVal_106 q3750 hc106_0 rfl (by decide +kernel) k) ?_
  refine hw_1 (fun k => x_if_eq (tgt := 131) dJ10_putVal_109 (by decide) (fun _ => k) (fun z => absurd (show (0 : Int) = 0 from (by decide)) z)) ?_
  refine hw_1 (fun k => x_iconst dJ10_putVal_131 (by decide) k) ?_
  refine hw_1 (fun k => x_istore (ls' := [(12, (0, 0)), (0, (2, x0)), (1, (0, x1)), (2, (2, x2)), (3, (2, x3)), (4, (0, x4)), (5, (0, x5)), (6, (2, x6)), (7, (2, x7))]) dJ10_putVal_132 (by decide) rfl k) ?_
  refine hw_locs [1, 2, 3, 4, 5, 6, 7, 8, 0] (ls' := [(0, (2, x0)), (1, (0, x1)), (2, (2, x2)), (3, (2, x3)), (4, (0, x4)), (5, (0, x5)), (6, (2, x6)), (7, (2, x7)), (12, (0, 0))]) rfl ?_
  refine h_J10_putVal_l134_ok hq (fun x0 x1 x2 x3 x4 x5 x6 x7 x10 x12 D145 hP h => ?_) (fun x0 x3 x4 x5 x10 D209 hP h => ?_) (fun x0 x3 x4 x5 x10 D222 hP h => ?_) hP h
  · refine hw_1 (fun k => x_aload dJ10_putVal_145 rfl k) ?_
    refine hw_1 (fun k => x_aload_n dJ10_putVal_147 rfl k) ?_
    refine hw_1 (fun k => x_iload_n dJ10_putVal_148 rfl k) ?_
    refine hw_1 (fun k => x_aload_n dJ10_putVal_149 rfl k) ?_
    refine hw_1 (fun k => x_aload_n dJ10_putVal_150 rfl k) ?_
    refine hw_1 (fun k => x_null dJ10_putVal_151 k) ?_
    replace h := ga_ck_some h; obtain ⟨hc152_0, h⟩ := h
    replace h := ga_bind_some h; obtain ⟨r152, D152, g152, h⟩ := h
    have hR152 := (h_J10_newNode_ok (G := G) hP g152)
    obtain ⟨hP152, hE152, -⟩ := id hR152
    refine hw_call (rest := [(2, x7)]) hR152 (fun hc hk9 => x_callV (as := [(0, x1), (2, x2), (2, x3), (2, 0)]) (rest := [(2, x7)]) dJ10_putVal_152 hc (lw_V q4053 q4054 q4055 q438 q4056) hc152_0 rfl rfl (show _ ∧ _ ∧ _ ∧ _ = some 4 from by decide +kernel) (by decide) (by decide) rfl (Nat.le_of_ble_eq_true rfl) hk9 aw_nox) ?_
    replace h := ga_ck_some h; obtain ⟨hc155_1, h⟩ := h
    replace h := ga_let_some h; obtain ⟨D155, eD155, h⟩ := h
    refine hw_set eD155 (Int.le_trans (by decide) (hkge_74 hc155_1)) (by decide) (fun k => x_putf dJ10_putVal_155 fl_J10_177 rfl hc155_1 (hkge_74 hc155_1) trivial k) ?_
    have hP155 : h_P D155 := hP152.set eD155 (hkge_74 hc155_1) (by decide) (hPn hc155_1 rfl)
    have hE155 : h_E D152 D155 := h_E_set eD155 (by decide)
    refine hw_1 (fun k => x_iload dJ10_putVal_158 rfl k) ?_
    refine hw_1 (fun k => x_bipush dJ10_putVal_160 (by decide) k) ?_
    by_cases c162 : x12 < 7
    · rw [if_pos c162] at h
      refine hw_1 (fun k => x_icmp_lt (tgt := 222) dJ10_putVal_162 (by decide) (fun _ => k) (fun z => absurd c162 z)) ?_
      refine hw_locs [0, 3, 4, 5, 8] (ls' := [(0, (2, x0)), (3, (2, x3)), (4, (0, x4)), (5, (0, x5)), (10, (2, x10))]) rfl ?_
      refine h_J10_putVal_j222_ok hq hP155 h
    · rw [if_neg c162] at h
      refine hw_1 (fun k => x_icmp_lt (tgt := 222) dJ10_putVal_162 (by decide) (fun z => absurd z c162) (fun _ => k)) ?_
      refine hw_1 (fun k => x_aload_n dJ10_putVal_165 rfl k) ?_
      refine hw_1 (fun k => x_aload dJ10_putVal_166 rfl k) ?_
      refine hw_1 (fun k => x_iload_n dJ10_putVal_168 rfl k) ?_
      exact absurd h (by intro h; cases h)
  · refine hw_1 (fun k => x_goto (tgt := 222) dJ10_putVal_209 (by decide) k) ?_
    refine h_J10_putVal_j222_ok hq hP h
  · refine h_J10_putVal_j222_ok hq hP h
theorem h_J10_putVal_j97_ok {G : aw_G} {M0 : aw_M} {D' : ga_D} {Q : Option aw_V → aw_M → Prop} {r : Int} (hq : Q (some (2, r)) (hM D')) {x0 x3 x4 x5 x7 : Int} {D : ga_D} (hP : h_P D) (h : h_J10_putVal_j97 x0 x3 x4 x5 x7 D = some (r, D')) : aw_HW G "java/util/HashMap" cJ10_putVal (some (.object "java/lang/Object")) 13 3 false M0 Q aw_no D' (hn D') (hsl D') 97 [(0, (2, x0)), (3, (2, x3)), (4, (0, x4)), (5, (0, x5)), (7, (2, x7))] [] D := by
  unfold h_J10_putVal_j97 at h
  refine hw_1 (fun k => x_aload dJ10_putVal_97 rfl k) ?_
  refine hw_1 (fun k => x_astore (ls' := [(10, (2, x7)), (0, (2, x0)), (3, (2, x3)), (4, (0, x4)), (5, (0, x5)), (7, (2, x7))]) dJ10_putVal_99 (by decide) rfl k) ?_
  refine hw_1 (fun k => x_goto (tgt := 222) dJ10_putVal_101 (by decide) k) ?_
  refine hw_locs [1, 2, 3, 4, 0] (ls' := [(0, (2, x0)), (3, (2, x3)), (4, (0, x4)), (5, (0, x5)), (10, (2, x7))]) rfl ?_
  refine h_J10_putVal_j222_ok hq hP h
theorem h_J10_putVal_j29_ok {G : aw_G} {M0 : aw_M} {D' : ga_D} {Q : Option aw_V → aw_M → Prop} {r : Int} (hq : Q (some (2, r)) (hM D')) {x0 x1 x2 x3 x4 x5 x6 x8 : Int} {D : ga_D} (hP : h_P D) (h : h_J10_putVal_j29 x0 x1 x2 x3 x4 x5 x6 x8 D = some (r, D')) : aw_HW G "java/util/HashMap" cJ10_putVal (some (.object "java/lang/Object")) 13 3 false M0 Q aw_no D' (hn D') (hsl D') 29 [(0, (2, x0)), (1, (0, x1)), (2, (2, x2)), (3, (2, x3)), (4, (0, x4)), (5, (0, x5)), (6, (2, x6)), (8, (0, x8))] [] D := by
  unfold h_J10_putVal_j29 at h
  refine hw_1 (fun k => x_aload dJ10_putVal_29 rfl k) ?_
  refine hw_1 (fun k => x_iload dJ10_putVal_31 rfl k) ?_
  refine hw_1 (fun k => x_iconst dJ10_putVal_33 (by decide) k) ?_
  refine hw_1 (fun k => x_isub dJ10_putVal_34 rfl k) ?_
  refine hw_1 (fun k => x_iload_n dJ10_putVal_35 rfl k) ?_
  refine hw_1 (fun k => x_iand dJ10_putVal_36 rfl k) ?_
  refine hw_1 (fun k => x_dup dJ10_putVal_37 rfl k) ?_
  replace h := ga_let_some h; obtain ⟨v38, ev38, h⟩ := h
  refine hw_nm ev38 ?_
  refine hw_1 (fun k => x_istore (ls' := [(9, (0, v38)), (0, (2, x0)), (1, (0, x1)), (2, (2, x2)), (3, (2, x3)), (4, (0, x4)), (5, (0, x5)), (6, (2, x6)), (8, (0, x8))]) dJ10_putVal_38 (by decide) rfl k) ?_
  replace h := ga_ck_some h; obtain ⟨hc40_0, h⟩ := h
  replace h := ga_ck_some h; obtain ⟨hc40_1, h⟩ := h
  refine hw_1 (fun k => x_aald (t := 18) (v := D x6 (aw_and (aw_w32 (x8 - 1)) x1)) dJ10_putVal_40 (hk_p hc40_0) rfl rfl hc40_1.1 hc40_1.2 rfl k) ?_
  refine hw_1 (fun k => x_dup dJ10_putVal_41 rfl k) ?_
  replace h := ga_let_some h; obtain ⟨v42, ev42, h⟩ := h
  refine hw_nm ev42 ?_
  refine hw_1 (fun k => x_astore (ls' := [(7, (2, v42)), (9, (0, v38)), (0, (2, x0)), (1, (0, x1)), (2, (2, x2)), (3, (2, x3)), (4, (0, x4)), (5, (0, x5)), (6, (2, x6)), (8, (0, x8))]) dJ10_putVal_42 (by decide) rfl k) ?_
  by_cases c44 : D x6 (aw_and (aw_w32 (x8 - 1)) x1) ≠ 0
  · rw [if_pos c44] at h
    refine hw_1 (fun k => x_ifnonnull (tgt := 63) dJ10_putVal_44 (by decide) (fun _ => k) (fun z => absurd c44 z)) ?_
    refine hw_1 (fun k => x_aload dJ10_putVal_63 rfl k) ?_
    replace h := ga_ck_some h; obtain ⟨hc65_0, h⟩ := h
    refine hw_1 (fun k => x_getf (v := D v42 0) dJ10_putVal_65 fl_J10_168 hc65_0 rfl k) ?_
    refine hw_1 (fun k => x_iload_n dJ10_putVal_68 rfl k) ?_
    by_cases c69 : D v42 0 ≠ x1
    · rw [if_pos c69] at h
      refine hw_1 (fun k => x_icmp_ne (tgt := 104) dJ10_putVal_69 (by decide) (fun _ => k) (fun z => absurd c69 z)) ?_
      refine hw_locs [2, 3, 4, 5, 6, 7, 8, 0] (ls' := [(0, (2, x0)), (1, (0, x1)), (2, (2, x2)), (3, (2, x3)), (4, (0, x4)), (5, (0, x5)), (6, (2, x6)), (7, (2, v42))]) rfl ?_
      refine h_J10_putVal_j104_ok hq hP h
    · rw [if_neg c69] at h
      refine hw_1 (fun k => x_icmp_ne (tgt := 104) dJ10_putVal_69 (by decide) (fun z => absurd z c69) (fun _ => k)) ?_
      refine hw_1 (fun k => x_aload dJ10_putVal_72 rfl k) ?_
      refine hw_1 (fun k => x_getf (v := D v42 1) dJ10_putVal_74 fl_J10_170 hc65_0 rfl k) ?_
      refine hw_1 (fun k => x_dup dJ10_putVal_77 rfl k) ?_
      replace h := ga_let_some h; obtain ⟨v78, ev78, h⟩ := h
      refine hw_nm ev78 ?_
      refine hw_1 (fun k => x_astore (ls' := [(11, (2, v78)), (7, (2, v42)), (9, (0, v38)), (0, (2, x0)), (1, (0, x1)), (2, (2, x2)), (3, (2, x3)), (4, (0, x4)), (5, (0, x5)), (6, (2, x6)), (8, (0, x8))]) dJ10_putVal_78 (by decide) rfl k) ?_
      refine hw_1 (fun k => x_aload_n dJ10_putVal_80 rfl k) ?_
      replace h := ga_ck_some h; obtain ⟨hc81_0, h⟩ := h
      by_cases c81 : D v42 1 = x2
      · rw [if_pos c81] at h
        refine hw_1 (fun k => x_acmp_eq (tgt := 97) dJ10_putVal_81 (by decide) hc81_0 (fun _ => k) (fun z => absurd c81 z)) ?_
        refine hw_locs [3, 6, 7, 8, 1] (ls' := [(0, (2, x0)), (3, (2, x3)), (4, (0, x4)), (5, (0, x5)), (7, (2, v42))]) rfl ?_
        refine h_J10_putVal_j97_ok hq hP h
      · rw [if_neg c81] at h
        refine hw_1 (fun k => x_acmp_eq (tgt := 97) dJ10_putVal_81 (by decide) hc81_0 (fun z => absurd z c81) (fun _ => k)) ?_
        refine hw_1 (fun k => x_aload_n dJ10_putVal_84 rfl k) ?_
        by_cases c85 : x2 = 0
        · rw [if_pos c85] at h
          refine hw_1 (fun k => x_ifnull (tgt := 104) dJ10_putVal_85 (by decide) (fun _ => k) (fun z => absurd c85 z)) ?_
          refine hw_locs [3, 4, 5, 6, 7, 8, 9, 1] (ls' := [(0, (2, x0)), (1, (0, x1)), (2, (2, x2)), (3, (2, x3)), (4, (0, x4)), (5, (0, x5)), (6, (2, x6)), (7, (2, v42))]) rfl ?_
          refine h_J10_putVal_j104_ok hq hP h
        · rw [if_neg c85] at h
          refine hw_1 (fun k => x_ifnull (tgt := 104) dJ10_putVal_85 (by decide) (fun z => absurd z c85) (fun _ => k)) ?_
          refine hw_1 (fun k => x_aload_n dJ10_putVal_88 rfl k) ?_
          refine hw_1 (fun k => x_aload dJ10_putVal_89 rfl k) ?_
          replace h := ga_bind_some h; obtain ⟨r91, D91, g91, h⟩ := h
          have hS91 : h_P D91 ∧ h_E D D91 ∧ ∃ mc ms : Nat, hn D + mc = hn D91 ∧ hsl D + ms = hsl D91 ∧ ∀ {c sl : Nat}, aw_W G "java/util/HashMap" cJ10_putVal (some (.object "java/lang/Object")) 13 3 false M0 Q aw_no c sl 94 [(11, (2, v78)), (7, (2, v42)), (9, (0, v38)), (0, (2, x0)), (1, (0, x1)), (2, (2, x2)), (3, (2, x3)), (4, (0, x4)), (5, (0, x5)), (6, (2, x6)), (8, (0, x8))] [(0, r91)] (hM D91) → aw_W G "java/util/HashMap" cJ10_putVal (some (.object "java/lang/Object")) 13 3 false M0 Q aw_no (c + mc) (sl + ms) 91 [(11, (2, v78)), (7, (2, v42)), (9, (0, v38)), (0, (2, x0)), (1, (0, x1)), (2, (2, x2)), (3, (2, x3)), (4, (0, x4)), (5, (0, x5)), (6, (2, x6)), (8, (0, x8))] [(2, v78), (2, x2)] (hM D) := by
            by_cases w91_0 : hk D x2 = (0, 0)
            · rw [if_pos w91_0] at g91
              exact absurd g91 (by intro h; cases h)
            rw [if_neg w91_0] at g91
            by_cases w91_1 : hk D x2 = (1, 0)
            · rw [if_pos w91_1] at g91
              exact absurd g91 (by intro h; cases h)
            rw [if_neg w91_1] at g91
            by_cases w91_2 : hk D x2 = (2, 0)
            · rw [if_pos w91_2] at g91
              exact absurd g91 (by intro h; cases h)
            rw [if_neg w91_2] at g91
            by_cases w91_3 : hk D x2 = (3, 0)
            · rw [if_pos w91_3] at g91
              exact absurd g91 (by intro h; cases h)
            rw [if_neg w91_3] at g91
            by_cases w91_4 : hk D x2 = (4, 0)
            · rw [if_pos w91_4] at g91
              exact absurd g91 (by intro h; cases h)
            rw [if_neg w91_4] at g91
            by_cases w91_5 : hk D x2 = (5, 0)
            · rw [if_pos w91_5] at g91
              exact absurd g91 (by intro h; cases h)
            rw [if_neg w91_5] at g91
            by_cases w91_6 : hk D x2 = (6, 0)
            · rw [if_pos w91_6] at g91
              exact absurd g91 (by intro h; cases h)
            rw [if_neg w91_6] at g91
            by_cases w91_7 : hk D x2 = (7, 0)
            · rw [if_pos w91_7] at g91
              exact absurd g91 (by intro h; cases h)
            rw [if_neg w91_7] at g91
            by_cases w91_8 : hk D x2 = (8, 0)
            · rw [if_pos w91_8] at g91
              exact absurd g91 (by intro h; cases h)
            rw [if_neg w91_8] at g91
            by_cases w91_9 : hk D x2 = (9, 0)
            · rw [if_pos w91_9] at g91
              exact absurd g91 (by intro h; cases h)
            rw [if_neg w91_9] at g91
            by_cases w91_10 : hk D x2 = (10, 0)
            · rw [if_pos w91_10] at g91
              exact absurd g91 (by intro h; cases h)
            rw [if_neg w91_10] at g91
            by_cases w91_11 : hk D x2 = (11, 0)
            · rw [if_pos w91_11] at g91
              exact absurd g91 (by intro h; cases h)
            rw [if_neg w91_11] at g91
            by_cases w91_12 : hk D x2 = (12, 0)
            · rw [if_pos w91_12] at g91
              exact absurd g91 (by intro h; cases h)
            rw [if_neg w91_12] at g91
            by_cases w91_13 : hk D x2 = (13, 0)
            · rw [if_pos w91_13] at g91
              exact absurd g91 (by intro h; cases h)
            rw [if_neg w91_13] at g91
            by_cases w91_14 : hk D x2 = (14, 0)
            · rw [if_pos w91_14] at g91
              exact absurd g91 (by intro h; cases h)
            rw [if_neg w91_14] at g91
            by_cases w91_15 : hk D x2 = (15, 0)
            · rw [if_pos w91_15] at g91
              exact absurd g91 (by intro h; cases h)
            rw [if_neg w91_15] at g91
            by_cases w91_16 : hk D x2 = (16, 0)
            · rw [if_pos w91_16] at g91
              exact absurd g91 (by intro h; cases h)
            rw [if_neg w91_16] at g91
            by_cases w91_17 : hk D x2 = (17, 0)
            · rw [if_pos w91_17] at g91
              exact absurd g91 (by intro h; cases h)
            rw [if_neg w91_17] at g91
            by_cases w91_18 : hk D x2 = (18, 0)
            · rw [if_pos w91_18] at g91
              exact absurd g91 (by intro h; cases h)
            rw [if_neg w91_18] at g91
            by_cases w91_19 : hk D x2 = (19, 0)
            · rw [if_pos w91_19] at g91
              exact absurd g91 (by intro h; cases h)
            rw [if_neg w91_19] at g91
            by_cases w91_20 : hk D x2 = (20, 0)
            · rw [if_pos w91_20] at g91
              exact absurd g91 (by intro h; cases h)
            rw [if_neg w91_20] at g91
            by_cases w91_21 : hk D x2 = (21, 0)
            · rw [if_pos w91_21] at g91
              exact absurd g91 (by intro h; cases h)
            rw [if_neg w91_21] at g91
            by_cases w91_22 : hk D x2 = (22, 0)
            · rw [if_pos w91_22] at g91
              exact absurd g91 (by intro h; cases h)
            rw [if_neg w91_22] at g91
            by_cases w91_23 : hk D x2 = (23, 0)
            · rw [if_pos w91_23] at g91
              exact absurd g91 (by intro h; cases h)
            rw [if_neg w91_23] at g91
            by_cases w91_24 : hk D x2 = (24, 0)
            · rw [if_pos w91_24] at g91
              exact absurd g91 (by intro h; cases h)
            rw [if_neg w91_24] at g91
            by_cases w91_25 : hk D x2 = (25, 0)
            · rw [if_pos w91_25] at g91
              exact absurd g91 (by intro h; cases h)
            rw [if_neg w91_25] at g91
            by_cases w91_26 : hk D x2 = (26, 0)
            · rw [if_pos w91_26] at g91
              exact absurd g91 (by intro h; cases h)
            rw [if_neg w91_26] at g91
            by_cases w91_27 : hk D x2 = (27, 0)
            · rw [if_pos w91_27] at g91
              exact absurd g91 (by intro h; cases h)
            rw [if_neg w91_27] at g91
            by_cases w91_28 : hk D x2 = (28, 0)
            · rw [if_pos w91_28] at g91
              exact absurd g91 (by intro h; cases h)
            rw [if_neg w91_28] at g91
            by_cases w91_29 : hk D x2 = (29, 0)
            · rw [if_pos w91_29] at g91
              exact absurd g91 (by intro h; cases h)
            rw [if_neg w91_29] at g91
            by_cases w91_30 : hk D x2 = (30, 0)
            · rw [if_pos w91_30] at g91
              exact absurd g91 (by intro h; cases h)
            rw [if_neg w91_30] at g91
            by_cases w91_31 : hk D x2 = (31, 0)
            · rw [if_pos w91_31] at g91
              exact absurd g91 (by intro h; cases h)
            rw [if_neg w91_31] at g91
            by_cases w91_32 : hk D x2 = (32, 0)
            · rw [if_pos w91_32] at g91
              exact absurd g91 (by intro h; cases h)
            rw [if_neg w91_32] at g91
            by_cases w91_33 : hk D x2 = (33, 0)
            · rw [if_pos w91_33] at g91
              exact absurd g91 (by intro h; cases h)
            rw [if_neg w91_33] at g91
            by_cases w91_34 : hk D x2 = (34, 0)
            · rw [if_pos w91_34] at g91
              exact absurd g91 (by intro h; cases h)
            rw [if_neg w91_34] at g91
            by_cases w91_35 : hk D x2 = (35, 0)
            · rw [if_pos w91_35] at g91
              exact absurd g91 (by intro h; cases h)
            rw [if_neg w91_35] at g91
            by_cases w91_36 : hk D x2 = (36, 0)
            · rw [if_pos w91_36] at g91
              exact absurd g91 (by intro h; cases h)
            rw [if_neg w91_36] at g91
            by_cases w91_37 : hk D x2 = (37, 0)
            · rw [if_pos w91_37] at g91
              exact absurd g91 (by intro h; cases h)
            rw [if_neg w91_37] at g91
            by_cases w91_38 : hk D x2 = (38, 0)
            · rw [if_pos w91_38] at g91
              exact absurd g91 (by intro h; cases h)
            rw [if_neg w91_38] at g91
            by_cases w91_39 : hk D x2 = (39, 0)
            · rw [if_pos w91_39] at g91
              exact absurd g91 (by intro h; cases h)
            rw [if_neg w91_39] at g91
            by_cases w91_40 : hk D x2 = (40, 0)
            · rw [if_pos w91_40] at g91
              exact absurd g91 (by intro h; cases h)
            rw [if_neg w91_40] at g91
            by_cases w91_41 : hk D x2 = (41, 0)
            · rw [if_pos w91_41] at g91
              exact absurd g91 (by intro h; cases h)
            rw [if_neg w91_41] at g91
            by_cases w91_42 : hk D x2 = (42, 0)
            · rw [if_pos w91_42] at g91
              exact absurd g91 (by intro h; cases h)
            rw [if_neg w91_42] at g91
            by_cases w91_43 : hk D x2 = (43, 0)
            · rw [if_pos w91_43] at g91
              exact absurd g91 (by intro h; cases h)
            rw [if_neg w91_43] at g91
            by_cases w91_44 : hk D x2 = (44, 0)
            · rw [if_pos w91_44] at g91
              exact absurd g91 (by intro h; cases h)
            rw [if_neg w91_44] at g91
            by_cases w91_45 : hk D x2 = (45, 0)
            · rw [if_pos w91_45] at g91
              exact absurd g91 (by intro h; cases h)
            rw [if_neg w91_45] at g91
            by_cases w91_46 : hk D x2 = (46, 0)
            · rw [if_pos w91_46] at g91
              exact absurd g91 (by intro h; cases h)
            rw [if_neg w91_46] at g91
            by_cases w91_47 : hk D x2 = (47, 0)
            · rw [if_pos w91_47] at g91
              exact absurd g91 (by intro h; cases h)
            rw [if_neg w91_47] at g91
            by_cases w91_48 : hk D x2 = (48, 0)
            · rw [if_pos w91_48] at g91
              exact absurd g91 (by intro h; cases h)
            rw [if_neg w91_48] at g91
            by_cases w91_49 : hk D x2 = (49, 0)
            · rw [if_pos w91_49] at g91
              exact absurd g91 (by intro h; cases h)
            rw [if_neg w91_49] at g91
            by_cases w91_50 : hk D x2 = (50, 0)
            · rw [if_pos w91_50] at g91
              exact absurd g91 (by intro h; cases h)
            rw [if_neg w91_50] at g91
            by_cases w91_51 : hk D x2 = (51, 0)
            · rw [if_pos w91_51] at g91
              exact absurd g91 (by intro h; cases h)
            rw [if_neg w91_51] at g91
            by_cases w91_52 : hk D x2 = (52, 0)
            · rw [if_pos w91_52] at g91
              exact absurd g91 (by intro h; cases h)
            rw [if_neg w91_52] at g91
            by_cases w91_53 : hk D x2 = (53, 0)
            · rw [if_pos w91_53] at g91
              exact absurd g91 (by intro h; cases h)
            rw [if_neg w91_53] at g91
            by_cases w91_54 : hk D x2 = (54, 0)
            · rw [if_pos w91_54] at g91
              exact absurd g91 (by intro h; cases h)
            rw [if_neg w91_54] at g91
            by_cases w91_55 : hk D x2 = (55, 0)
            · rw [if_pos w91_55] at g91
              exact absurd g91 (by intro h; cases h)
            rw [if_neg w91_55] at g91
            by_cases w91_56 : hk D x2 = (56, 0)
            · rw [if_pos w91_56] at g91
              exact absurd g91 (by intro h; cases h)
            rw [if_neg w91_56] at g91
            by_cases w91_57 : hk D x2 = (57, 0)
            · rw [if_pos w91_57] at g91
              exact absurd g91 (by intro h; cases h)
            rw [if_neg w91_57] at g91
            by_cases w91_58 : hk D x2 = (58, 0)
            · rw [if_pos w91_58] at g91
              exact absurd g91 (by intro h; cases h)
            rw [if_neg w91_58] at g91
            by_cases w91_59 : hk D x2 = (59, 0)
            · rw [if_pos w91_59] at g91
              exact absurd g91 (by intro h; cases h)
            rw [if_neg w91_59] at g91
            by_cases w91_66 : hk D x2 = (66, 0)
            · rw [if_pos w91_66] at g91
              exact absurd g91 (by intro h; cases h)
            rw [if_neg w91_66] at g91
            by_cases w91_67 : hk D x2 = (67, 0)
            · rw [if_pos w91_67] at g91
              exact absurd g91 (by intro h; cases h)
            rw [if_neg w91_67] at g91
            by_cases w91_68 : hk D x2 = (68, 0)
            · rw [if_pos w91_68] at g91
              exact absurd g91 (by intro h; cases h)
            rw [if_neg w91_68] at g91
            by_cases w91_69 : hk D x2 = (69, 0)
            · rw [if_pos w91_69] at g91
              have hR := (h_J20_equals_ok (G := G) hP g91)
              exact hw_callM (rest := []) hR (fun hc hk9 => x_callU (C := "java/lang/String") (owner := "java/lang/Object") (as := [(2, v78)]) (rest := []) dJ10_putVal_91 hc q3049 q4057 q3079 (Or.inr q3076) q3163 q3047 q471 w91_69 rfl rfl (show _ ∧ _ ∧ _ = some 1 from by decide +kernel) (by decide) (by decide) rfl (Nat.le_of_ble_eq_true rfl) hk9 aw_nox)
            rw [if_neg w91_69] at g91
            by_cases w91_70 : hk D x2 = (70, 0)
            · rw [if_pos w91_70] at g91
              have hR := (h_J25_equals_ok (G := G) hP g91)
              exact hw_callM (rest := []) hR (fun hc hk9 => x_callU (C := "java/lang/Integer") (owner := "java/lang/Object") (as := [(2, v78)]) (rest := []) dJ10_putVal_91 hc q3149 q4057 q3079 (Or.inr q3076) q3147 q3148 q476 w91_70 rfl rfl (show _ ∧ _ ∧ _ = some 1 from by decide +kernel) (by decide) (by decide) rfl (Nat.le_of_ble_eq_true rfl) hk9 aw_nox)
            rw [if_neg w91_70] at g91
            by_cases w91_72 : hk D x2 = (72, 0)
            · rw [if_pos w91_72] at g91
              exact absurd g91 (by intro h; cases h)
            rw [if_neg w91_72] at g91
            by_cases w91_73 : hk D x2 = (73, 0)
            · rw [if_pos w91_73] at g91
              have hR := (h_J30_equals_ok (G := G) hP g91)
              exact hw_callM (rest := []) hR (fun hc hk9 => x_callU (C := "java/lang/Long") (owner := "java/lang/Object") (as := [(2, v78)]) (rest := []) dJ10_putVal_91 hc q3157 q4057 q3079 (Or.inr q3076) q3155 q3156 q485 w91_73 rfl rfl (show _ ∧ _ ∧ _ = some 1 from by decide +kernel) (by decide) (by decide) rfl (Nat.le_of_ble_eq_true rfl) hk9 aw_nox)
            rw [if_neg w91_73] at g91
            exact absurd g91 (by intro h; cases h)
          obtain ⟨hP91, hE91, hS91⟩ := hS91
          refine hw_go ⟨hE91, hS91⟩ ?_
          by_cases c94 : r91 = 0
          · rw [if_pos c94] at h
            refine hw_1 (fun k => x_if_eq (tgt := 104) dJ10_putVal_94 (by decide) (fun _ => k) (fun z => absurd c94 z)) ?_
            refine hw_locs [3, 4, 5, 6, 7, 8, 9, 1] (ls' := [(0, (2, x0)), (1, (0, x1)), (2, (2, x2)), (3, (2, x3)), (4, (0, x4)), (5, (0, x5)), (6, (2, x6)), (7, (2, v42))]) rfl ?_
            refine h_J10_putVal_j104_ok hq hP91 h
          · rw [if_neg c94] at h
            refine hw_1 (fun k => x_if_eq (tgt := 104) dJ10_putVal_94 (by decide) (fun z => absurd z c94) (fun _ => k)) ?_
            refine hw_locs [3, 6, 7, 8, 1] (ls' := [(0, (2, x0)), (3, (2, x3)), (4, (0, x4)), (5, (0, x5)), (7, (2, v42))]) rfl ?_
            refine h_J10_putVal_j97_ok hq hP91 h
  · rw [if_neg c44] at h
    refine hw_1 (fun k => x_ifnonnull (tgt := 63) dJ10_putVal_44 (by decide) (fun z => absurd z c44) (fun _ => k)) ?_
    refine hw_1 (fun k => x_aload dJ10_putVal_47 rfl k) ?_
    refine hw_1 (fun k => x_iload dJ10_putVal_49 rfl k) ?_
    refine hw_1 (fun k => x_aload_n dJ10_putVal_51 rfl k) ?_
    refine hw_1 (fun k => x_iload_n dJ10_putVal_52 rfl k) ?_
    refine hw_1 (fun k => x_aload_n dJ10_putVal_53 rfl k) ?_
    refine hw_1 (fun k => x_aload_n dJ10_putVal_54 rfl k) ?_
    refine hw_1 (fun k => x_null dJ10_putVal_55 k) ?_
    replace h := ga_ck_some h; obtain ⟨hc56_0, h⟩ := h
    replace h := ga_bind_some h; obtain ⟨r56, D56, g56, h⟩ := h
    have hR56 := (h_J10_newNode_ok (G := G) hP g56)
    obtain ⟨hP56, hE56, -⟩ := id hR56
    refine hw_call (rest := [(0, v38), (2, x6)]) hR56 (fun hc hk9 => x_callV (as := [(0, x1), (2, x2), (2, x3), (2, 0)]) (rest := [(0, v38), (2, x6)]) dJ10_putVal_56 hc (lw_V q4053 q4054 q4055 q438 q4056) hc56_0 rfl rfl (show _ ∧ _ ∧ _ ∧ _ = some 4 from by decide +kernel) (by decide) (by decide) rfl (Nat.le_of_ble_eq_true rfl) hk9 aw_nox) ?_
    replace h := ga_ck_some h; obtain ⟨hc59_1, h⟩ := h
    replace h := ga_ck_some h; obtain ⟨hc59_2, h⟩ := h
    replace h := ga_ck_some h; obtain ⟨hc59_3, h⟩ := h
    replace h := ga_let_some h; obtain ⟨D59, eD59, h⟩ := h
    refine hw_set eD59 (Int.le_trans (by decide) hc59_1) hc59_2.1 (fun k => x_aastL (t := 18) (L := [74, 75]) dJ10_putVal_59 (h_kx hE56 (hk_p hc40_0) (by decide)) rfl hc59_1 hc59_2.1 hc59_2.2 sbl_java_util_HashMap_Node (aw_or2 hc59_3) k) ?_
    have hP59 : h_P D59 := hP56.set eD59 hc59_1 hc59_2.1 (hPn (h_kx hE56 (hk_p hc40_0) (by decide)) rfl)
    have hE59 : h_E D56 D59 := h_E_set eD59 hc59_2.1
    refine hw_1 (fun k => x_goto (tgt := 259) dJ10_putVal_60 (by decide) k) ?_
    refine hw_locs [2, 7] (ls' := [(0, (2, x0)), (5, (0, x5))]) rfl ?_
    refine h_J10_putVal_j259_ok hq hP59 h
theorem h_J10_putVal_j19_ok {G : aw_G} {M0 : aw_M} {D' : ga_D} {Q : Option aw_V → aw_M → Prop} {r : Int} (hq : Q (some (2, r)) (hM D')) {x0 x1 x2 x3 x4 x5 : Int} {D : ga_D} (hP : h_P D) (h : h_J10_putVal_j19 x0 x1 x2 x3 x4 x5 D = some (r, D')) : aw_HW G "java/util/HashMap" cJ10_putVal (some (.object "java/lang/Object")) 13 3 false M0 Q aw_no D' (hn D') (hsl D') 19 [(0, (2, x0)), (1, (0, x1)), (2, (2, x2)), (3, (2, x3)), (4, (0, x4)), (5, (0, x5))] [] D := by
  unfold h_J10_putVal_j19 at h
  refine hw_1 (fun k => x_aload_n dJ10_putVal_19 rfl k) ?_
  replace h := ga_ck_some h; obtain ⟨hc20_0, h⟩ := h
  replace h := ga_bind_some h; obtain ⟨r20, D20, g20, h⟩ := h
  have hR20 := (h_J10_resize_ok (G := G) hP g20)
  obtain ⟨hP20, hE20, -⟩ := id hR20
  refine hw_call (rest := []) hR20 (fun hc hk9 => x_callV (as := []) (rest := []) dJ10_putVal_20 hc (lw_V q3741 q3742 q3743 q438 q3744) hc20_0 rfl rfl (show _ ∧ _ ∧ _ ∧ _ = some 0 from by decide +kernel) (by decide) (by decide) rfl (Nat.le_of_ble_eq_true rfl) hk9 aw_nox) ?_
  refine hw_1 (fun k => x_dup dJ10_putVal_23 rfl k) ?_
  refine hw_1 (fun k => x_astore (ls' := [(6, (2, r20)), (0, (2, x0)), (1, (0, x1)), (2, (2, x2)), (3, (2, x3)), (4, (0, x4)), (5, (0, x5))]) dJ10_putVal_24 (by decide) rfl k) ?_
  replace h := ga_ck_some h; obtain ⟨hc26_1, h⟩ := h
  refine hw_1 (fun k => x_alen (t := 18) dJ10_putVal_26 (hk_p hc26_1) rfl k) ?_
  replace h := ga_let_some h; obtain ⟨v27, ev27, h⟩ := h
  refine hw_nm ev27 ?_
  refine hw_1 (fun k => x_istore (ls' := [(8, (0, v27)), (6, (2, r20)), (0, (2, x0)), (1, (0, x1)), (2, (2, x2)), (3, (2, x3)), (4, (0, x4)), (5, (0, x5))]) dJ10_putVal_27 (by decide) rfl k) ?_
  refine hw_locs [2, 3, 4, 5, 6, 7, 1, 0] (ls' := [(0, (2, x0)), (1, (0, x1)), (2, (2, x2)), (3, (2, x3)), (4, (0, x4)), (5, (0, x5)), (6, (2, r20)), (8, (0, v27))]) rfl ?_
  refine h_J10_putVal_j29_ok hq hP20 h
theorem h_J10_putVal_ok {G : aw_G} {D D' : ga_D} {r : Int} {x0 x1 x2 x3 x4 x5 : Int} (hP : h_P D) (h : h_J10_putVal x0 x1 x2 x3 x4 x5 D = some (r, D')) : aw_HR yJ10_putVal cJ10_putVal 13 (some (.object "java/lang/Object")) 3 G [(2, x0), (0, x1), (2, x2), (2, x3), (0, x4), (0, x5)] D (some (2, r)) D' := by
  unfold h_J10_putVal at h
  refine hw_body (own := "java/util/HashMap") (ini := false) (ls := [(0, (2, x0)), (1, (0, x1)), (2, (2, x2)), (3, (2, x3)), (4, (0, x4)), (5, (0, x5))]) rfl rfl (fun h => by cases h) (Nat.le_of_ble_eq_true rfl) rfl fun Q hq => ?_
  refine hw_1 (fun k => x_aload_n dJ10_putVal_0 rfl k) ?_
  replace h := ga_ck_some h; obtain ⟨hc1_0, h⟩ := h
  refine hw_1 (fun k => x_getf (v := D x0 2) dJ10_putVal_1 fl_J10_105 hc1_0 rfl k) ?_
  refine hw_1 (fun k => x_dup dJ10_putVal_4 rfl k) ?_
  replace h := ga_let_some h; obtain ⟨v5, ev5, h⟩ := h
  refine hw_nm ev5 ?_
  refine hw_1 (fun k => x_astore (ls' := [(6, (2, v5)), (0, (2, x0)), (1, (0, x1)), (2, (2, x2)), (3, (2, x3)), (4, (0, x4)), (5, (0, x5))]) dJ10_putVal_5 (by decide) rfl k) ?_
  by_cases c7 : D x0 2 = 0
  · rw [if_pos c7] at h
    refine hw_1 (fun k => x_ifnull (tgt := 19) dJ10_putVal_7 (by decide) (fun _ => k) (fun z => absurd c7 z)) ?_
    refine hw_locs [1, 2, 3, 4, 5, 6] (ls' := [(0, (2, x0)), (1, (0, x1)), (2, (2, x2)), (3, (2, x3)), (4, (0, x4)), (5, (0, x5))]) rfl ?_
    refine h_J10_putVal_j19_ok hq hP h
  · rw [if_neg c7] at h
    refine hw_1 (fun k => x_ifnull (tgt := 19) dJ10_putVal_7 (by decide) (fun z => absurd z c7) (fun _ => k)) ?_
    refine hw_1 (fun k => x_aload dJ10_putVal_10 rfl k) ?_
    replace h := ga_ck_some h; obtain ⟨hc12_0, h⟩ := h
    refine hw_1 (fun k => x_alen (t := 18) dJ10_putVal_12 (hk_p hc12_0) rfl k) ?_
    refine hw_1 (fun k => x_dup dJ10_putVal_13 rfl k) ?_
    replace h := ga_let_some h; obtain ⟨v14, ev14, h⟩ := h
    refine hw_nm ev14 ?_
    refine hw_1 (fun k => x_istore (ls' := [(8, (0, v14)), (6, (2, v5)), (0, (2, x0)), (1, (0, x1)), (2, (2, x2)), (3, (2, x3)), (4, (0, x4)), (5, (0, x5))]) dJ10_putVal_14 (by decide) rfl k) ?_
    by_cases c16 : (hk D v5).2 ≠ 0
    · rw [if_pos c16] at h
      refine hw_1 (fun k => x_if_ne (tgt := 29) dJ10_putVal_16 (by decide) (fun _ => k) (fun z => absurd c16 z)) ?_
      refine hw_locs [2, 3, 4, 5, 6, 7, 1, 0] (ls' := [(0, (2, x0)), (1, (0, x1)), (2, (2, x2)), (3, (2, x3)), (4, (0, x4)), (5, (0, x5)), (6, (2, v5)), (8, (0, v14))]) rfl ?_
      refine h_J10_putVal_j29_ok hq hP h
    · rw [if_neg c16] at h
      refine hw_1 (fun k => x_if_ne (tgt := 29) dJ10_putVal_16 (by decide) (fun z => absurd z c16) (fun _ => k)) ?_
      refine hw_locs [2, 3, 4, 5, 6, 7] (ls' := [(0, (2, x0)), (1, (0, x1)), (2, (2, x2)), (3, (2, x3)), (4, (0, x4)), (5, (0, x5))]) rfl ?_
      refine h_J10_putVal_j19_ok hq hP h
theorem h_J10_put_ok {G : aw_G} {D D' : ga_D} {r : Int} {x0 x1 x2 : Int} (hP : h_P D) (h : h_J10_put x0 x1 x2 D = some (r, D')) : aw_HR yJ10_put cJ10_put 3 (some (.object "java/lang/Object")) 4 G [(2, x0), (2, x1), (2, x2)] D (some (2, r)) D' := by
  unfold h_J10_put at h
  refine hw_body (own := "java/util/HashMap") (ini := false) (ls := [(0, (2, x0)), (1, (2, x1)), (2, (2, x2))]) rfl rfl (fun h => by cases h) (Nat.le_of_ble_eq_true rfl) rfl fun Q hq => ?_
  refine hw_1 (fun k => x_aload_n dJ10_put_0 rfl k) ?_
  refine hw_1 (fun k => x_aload_n dJ10_put_1 rfl k) ?_
  replace h := ga_bind_some h; obtain ⟨r2, D2, g2, h⟩ := h
  have hR2 := (h_J10_hash_ok (G := G) hP g2)
  obtain ⟨hP2, hE2, -⟩ := id hR2
  refine hw_call (rest := [(2, x0)]) hR2 (fun hc hk9 => x_callS (as := [(2, x1)]) (rest := [(2, x0)]) dJ10_put_2 hc (lw_S q3588 q3589 q438 q3590) (show _ ∧ _ ∧ _ = some 1 from by decide +kernel) (by decide) (by decide) rfl (Nat.le_of_ble_eq_true rfl) hk9 aw_nox) ?_
  refine hw_1 (fun k => x_aload_n dJ10_put_5 rfl k) ?_
  refine hw_1 (fun k => x_aload_n dJ10_put_6 rfl k) ?_
  refine hw_1 (fun k => x_iconst dJ10_put_7 (by decide) k) ?_
  refine hw_1 (fun k => x_iconst dJ10_put_8 (by decide) k) ?_
  replace h := ga_ck_some h; obtain ⟨hc9_0, h⟩ := h
  replace h := ga_bind_some h; obtain ⟨r9, D9, g9, h⟩ := h
  have hR9 := (h_J10_putVal_ok (G := G) hP2 g9)
  obtain ⟨hP9, hE9, -⟩ := id hR9
  refine hw_call (rest := []) hR9 (fun hc hk9 => x_callV (as := [(0, r2), (2, x1), (2, x2), (0, 0), (0, 1)]) (rest := []) dJ10_put_9 hc (lw_V q3737 q3738 q3739 q438 q3740) hc9_0 rfl rfl (show _ ∧ _ ∧ _ ∧ _ = some 5 from by decide +kernel) (by decide) (by decide) rfl (Nat.le_of_ble_eq_true rfl) hk9 aw_nox) ?_
  obtain ⟨rfl, rfl⟩ := ga_end h
  exact hw_ret hP9 (x_aret dJ10_put_12 rfl (by first | exact Or.inl ⟨_, rfl⟩ | exact Or.inr ⟨_, rfl⟩) hq)
theorem h_J9_add_ok {G : aw_G} {D D' : ga_D} {r : Int} {x0 x1 : Int} (hP : h_P D) (h : h_J9_add x0 x1 D = some (r, D')) : aw_HR yJ9_add cJ9_add 2 (some (.boolean)) 5 G [(2, x0), (2, x1)] D (some (0, r)) D' := by
  unfold h_J9_add at h
  refine hw_body (own := "java/util/HashSet") (ini := false) (ls := [(0, (2, x0)), (1, (2, x1))]) rfl rfl (fun h => by cases h) (Nat.le_of_ble_eq_true rfl) rfl fun Q hq => ?_
  refine hw_1 (fun k => x_aload_n dJ9_add_0 rfl k) ?_
  replace h := ga_ck_some h; obtain ⟨hc1_0, h⟩ := h
  refine hw_1 (fun k => x_getf (v := D x0 0) dJ9_add_1 fl_J9_10 hc1_0 rfl k) ?_
  refine hw_1 (fun k => x_aload_n dJ9_add_4 rfl k) ?_
  refine hw_1 (fun k => x_gets (tg := 2) (z := 158) dJ9_add_5 q3582 (by decide +kernel) k) ?_
  replace h := ga_ck_some h; obtain ⟨hc8_1, h⟩ := h
  replace h := ga_bind_some h; obtain ⟨r8, D8, g8, h⟩ := h
  have hR8 := (h_J10_put_ok (G := G) hP g8)
  obtain ⟨hP8, hE8, -⟩ := id hR8
  refine hw_call (rest := []) hR8 (fun hc hk9 => x_callV (as := [(2, x1), (2, 158)]) (rest := []) dJ9_add_8 hc (lw_V q3584 q3585 q3586 q438 q3587) hc8_1 rfl rfl (show _ ∧ _ ∧ _ ∧ _ = some 2 from by decide +kernel) (by decide) (by decide) rfl (Nat.le_of_ble_eq_true rfl) hk9 aw_nox) ?_
  by_cases c11 : r8 ≠ 0
  · rw [if_pos c11] at h
    refine hw_1 (fun k => x_ifnonnull (tgt := 18) dJ9_add_11 (by decide) (fun _ => k) (fun z => absurd c11 z)) ?_
    refine hw_1 (fun k => x_iconst dJ9_add_18 (by decide) k) ?_
    obtain ⟨rfl, rfl⟩ := ga_end h
    exact hw_ret hP8 (x_iret dJ9_add_19 rfl rfl (show (0 : Int) ≤ 0 ∧ (0 : Int) < 2 from by decide) hq)
  · rw [if_neg c11] at h
    refine hw_1 (fun k => x_ifnonnull (tgt := 18) dJ9_add_11 (by decide) (fun z => absurd z c11) (fun _ => k)) ?_
    refine hw_1 (fun k => x_iconst dJ9_add_14 (by decide) k) ?_
    refine hw_1 (fun k => x_goto (tgt := 19) dJ9_add_15 (by decide) k) ?_
    obtain ⟨rfl, rfl⟩ := ga_end h
    exact hw_ret hP8 (x_iret dJ9_add_19 rfl rfl (show (0 : Int) ≤ 1 ∧ (1 : Int) < 2 from by decide) hq)
theorem h_J0_addAll_l9_ok {G : aw_G} {M0 : aw_M} {D' : ga_D} {Q : Option aw_V → aw_M → Prop} {r : Int} (hq : Q (some (0, r)) (hM D')) {k40 : Int → ga_D → ga_S} (hk40 : ∀ (x2 : Int) (D : ga_D), h_P D → k40 x2 D = some (r, D') → aw_HW G "java/util/AbstractCollection" cJ0_addAll (some (.boolean)) 5 13 false M0 Q aw_no D' (hn D') (hsl D') 40 [(2, (0, x2))] [] D) : ∀ {n : Nat} {x0 x2 x3 : Int} {D : ga_D}, h_P D → h_J0_addAll_l9 n x0 x2 x3 D k40 = some (r, D') → aw_HW G "java/util/AbstractCollection" cJ0_addAll (some (.boolean)) 5 13 false M0 Q aw_no D' (hn D') (hsl D') 9 [(0, (2, x0)), (2, (0, x2)), (3, (2, x3))] [] D := by
  intro n
  induction n with
  | zero => intro x0 x2 x3 D hP h; exact absurd (h : (none : ga_S) = some (r, D')) (by intro h; cases h)
  | succ n ih =>
    intro x0 x2 x3 D hP h
    have ih : ∀ (x0 x2 x3 : Int) (D : ga_D), h_P D → h_J0_addAll_l9 n x0 x2 x3 D k40 = some (r, D') → aw_HW G "java/util/AbstractCollection" cJ0_addAll (some (.boolean)) 5 13 false M0 Q aw_no D' (hn D') (hsl D') 9 [(0, (2, x0)), (2, (0, x2)), (3, (2, x3))] [] D := fun x0 x2 x3 D hP h => ih hP h
    replace h : (ga_bind (if hk D x3 = (71, 0) then (h_J26_hasNext x3 D) else if hk D x3 = (78, 0) then (h_J37_hasNext x3 D) else if hk D x3 = (80, 0) then (h_J40_hasNext x3 D) else if hk D x3 = (82, 0) then (h_J43_hasNext x3 D) else none) (fun r10 D10 => if r10 = 0 then (k40 x2 D10) else (ga_bind (if hk D10 x3 = (71, 0) then (h_J26_next x3 D10) else if hk D10 x3 = (78, 0) then (h_J38_next x3 D10) else if hk D10 x3 = (80, 0) then (h_J41_next x3 D10) else if hk D10 x3 = (82, 0) then (h_J43_next x3 D10) else none) (fun r19 D19 => ga_bind (if hk D19 x0 = (60, 0) then (h_J2_add x0 r19 D19) else if hk D19 x0 = (62, 0) then (h_J7_add x0 r19 D19) else if hk D19 x0 = (63, 0) then (h_J9_add x0 r19 D19) else if hk D19 x0 = (77, 0) then (h_J0_add x0 r19 D19) else if hk D19 x0 = (79, 0) then (h_J0_add x0 r19 D19) else none) (fun r29 D29 => if r29 = 0 then (h_J0_addAll_l9 n x0 x2 x3 D29 k40) else (h_J0_addAll_l9 n x0 1 x3 D29 k40))))) : ga_S) = some (r, D') := h
    refine hw_1 (fun k => x_aload_n dJ0_addAll_9 rfl k) ?_
    replace h := ga_bind_some h; obtain ⟨r10, D10, g10, h⟩ := h
    have hS10 : h_P D10 ∧ h_E D D10 ∧ ∃ mc ms : Nat, hn D + mc = hn D10 ∧ hsl D + ms = hsl D10 ∧ ∀ {c sl : Nat}, aw_W G "java/util/AbstractCollection" cJ0_addAll (some (.boolean)) 5 13 false M0 Q aw_no c sl 15 [(0, (2, x0)), (2, (0, x2)), (3, (2, x3))] [(0, r10)] (hM D10) → aw_W G "java/util/AbstractCollection" cJ0_addAll (some (.boolean)) 5 13 false M0 Q aw_no (c + mc) (sl + ms) 10 [(0, (2, x0)), (2, (0, x2)), (3, (2, x3))] [(2, x3)] (hM D) := by
      by_cases w10_71 : hk D x3 = (71, 0)
      · rw [if_pos w10_71] at g10
        have hR := (h_J26_hasNext_ok (G := G) hP g10)
        exact hw_callM (rest := []) hR (fun hc hk9 => x_callF (C := "java/util/ArrayList$Itr") (as := []) (rest := []) dJ0_addAll_10 hc q2979 q4703 (by decide +kernel) q2975 q2977 q477 q2978 q2976 q2974 w10_71 rfl rfl (show _ = some 0 from by decide +kernel) (by decide) (by decide) rfl (Nat.le_of_ble_eq_true rfl) hk9 aw_nox)
      rw [if_neg w10_71] at g10
      by_cases w10_78 : hk D x3 = (78, 0)
      · rw [if_pos w10_78] at g10
        have hR := (h_J37_hasNext_ok (G := G) hP g10)
        exact hw_callM (rest := []) hR (fun hc hk9 => x_callF (C := "java/util/HashMap$KeyIterator") (as := []) (rest := []) dJ0_addAll_10 hc q2985 q4703 (by decide +kernel) q2981 q2983 q495 q2984 q2982 q2980 w10_78 rfl rfl (show _ = some 0 from by decide +kernel) (by decide) (by decide) rfl (Nat.le_of_ble_eq_true rfl) hk9 aw_nox)
      rw [if_neg w10_78] at g10
      by_cases w10_80 : hk D x3 = (80, 0)
      · rw [if_pos w10_80] at g10
        have hR := (h_J40_hasNext_ok (G := G) hP g10)
        exact hw_callM (rest := []) hR (fun hc hk9 => x_callF (C := "java/util/TreeMap$EntryIterator") (as := []) (rest := []) dJ0_addAll_10 hc q2991 q4703 (by decide +kernel) q2987 q2989 q498 q2990 q2988 q2986 w10_80 rfl rfl (show _ = some 0 from by decide +kernel) (by decide) (by decide) rfl (Nat.le_of_ble_eq_true rfl) hk9 aw_nox)
      rw [if_neg w10_80] at g10
      by_cases w10_82 : hk D x3 = (82, 0)
      · rw [if_pos w10_82] at g10
        have hR := (h_J43_hasNext_ok (G := G) hP g10)
        exact hw_callM (rest := []) hR (fun hc hk9 => x_callF (C := "java/util/ArrayDeque$DeqIterator") (as := []) (rest := []) dJ0_addAll_10 hc q2973 q4703 (by decide +kernel) q2969 q2971 q502 q2972 q2970 q2968 w10_82 rfl rfl (show _ = some 0 from by decide +kernel) (by decide) (by decide) rfl (Nat.le_of_ble_eq_true rfl) hk9 aw_nox)
      rw [if_neg w10_82] at g10
      exact absurd g10 (by intro h; cases h)
    obtain ⟨hP10, hE10, hS10⟩ := hS10
    refine hw_go ⟨hE10, hS10⟩ ?_
    by_cases c15 : r10 = 0
    · rw [if_pos c15] at h
      refine hw_1 (fun k => x_if_eq (tgt := 40) dJ0_addAll_15 (by decide) (fun _ => k) (fun z => absurd c15 z)) ?_
      refine hw_locs [1] (ls' := [(2, (0, x2))]) rfl ?_
      exact hk40 _ _ hP10 h
    · rw [if_neg c15] at h
      refine hw_1 (fun k => x_if_eq (tgt := 40) dJ0_addAll_15 (by decide) (fun z => absurd z c15) (fun _ => k)) ?_
      refine hw_1 (fun k => x_aload_n dJ0_addAll_18 rfl k) ?_
      replace h := ga_bind_some h; obtain ⟨r19, D19, g19, h⟩ := h
      have hS19 : h_P D19 ∧ h_E D10 D19 ∧ ∃ mc ms : Nat, hn D10 + mc = hn D19 ∧ hsl D10 + ms = hsl D19 ∧ ∀ {c sl : Nat}, aw_W G "java/util/AbstractCollection" cJ0_addAll (some (.boolean)) 5 13 false M0 Q aw_no c sl 24 [(0, (2, x0)), (2, (0, x2)), (3, (2, x3))] [(2, r19)] (hM D19) → aw_W G "java/util/AbstractCollection" cJ0_addAll (some (.boolean)) 5 13 false M0 Q aw_no (c + mc) (sl + ms) 19 [(0, (2, x0)), (2, (0, x2)), (3, (2, x3))] [(2, x3)] (hM D10) := by
        by_cases w19_71 : hk D10 x3 = (71, 0)
        · rw [if_pos w19_71] at g19
          have hR := (h_J26_next_ok (G := G) hP10 g19)
          exact hw_callM (rest := []) hR (fun hc hk9 => x_callF (C := "java/util/ArrayList$Itr") (as := []) (rest := []) dJ0_addAll_19 hc q3011 q4705 (by decide +kernel) q3007 q3009 q477 q3010 q3008 q2974 w19_71 rfl rfl (show _ = some 0 from by decide +kernel) (by decide) (by decide) rfl (Nat.le_of_ble_eq_true rfl) hk9 aw_nox)
        rw [if_neg w19_71] at g19
        by_cases w19_78 : hk D10 x3 = (78, 0)
        · rw [if_pos w19_78] at g19
          have hR := (h_J38_next_ok (G := G) hP10 g19)
          exact hw_callM (rest := []) hR (fun hc hk9 => x_callF (C := "java/util/HashMap$KeyIterator") (as := []) (rest := []) dJ0_addAll_19 hc q3020 q4705 (by decide +kernel) q3016 q3018 q496 q3019 q3017 q2980 w19_78 rfl rfl (show _ = some 0 from by decide +kernel) (by decide) (by decide) rfl (Nat.le_of_ble_eq_true rfl) hk9 aw_nox)
        rw [if_neg w19_78] at g19
        by_cases w19_80 : hk D10 x3 = (80, 0)
        · rw [if_pos w19_80] at g19
          have hR := (h_J41_next_ok (G := G) hP10 g19)
          exact hw_callM (rest := []) hR (fun hc hk9 => x_callF (C := "java/util/TreeMap$EntryIterator") (as := []) (rest := []) dJ0_addAll_19 hc q3031 q4705 (by decide +kernel) q3027 q3029 q499 q3030 q3028 q2986 w19_80 rfl rfl (show _ = some 0 from by decide +kernel) (by decide) (by decide) rfl (Nat.le_of_ble_eq_true rfl) hk9 aw_nox)
        rw [if_neg w19_80] at g19
        by_cases w19_82 : hk D10 x3 = (82, 0)
        · rw [if_pos w19_82] at g19
          have hR := (h_J43_next_ok (G := G) hP10 g19)
          exact hw_callM (rest := []) hR (fun hc hk9 => x_callF (C := "java/util/ArrayDeque$DeqIterator") (as := []) (rest := []) dJ0_addAll_19 hc q3000 q4705 (by decide +kernel) q2996 q2998 q502 q2999 q2997 q2968 w19_82 rfl rfl (show _ = some 0 from by decide +kernel) (by decide) (by decide) rfl (Nat.le_of_ble_eq_true rfl) hk9 aw_nox)
        rw [if_neg w19_82] at g19
        exact absurd g19 (by intro h; cases h)
      obtain ⟨hP19, hE19, hS19⟩ := hS19
      refine hw_go ⟨hE19, hS19⟩ ?_
      refine hw_1 (fun k => x_astore (ls' := [(4, (2, r19)), (0, (2, x0)), (2, (0, x2)), (3, (2, x3))]) dJ0_addAll_24 (by decide) rfl k) ?_
      refine hw_1 (fun k => x_aload_n dJ0_addAll_26 rfl k) ?_
      refine hw_1 (fun k => x_aload dJ0_addAll_27 rfl k) ?_
      replace h := ga_bind_some h; obtain ⟨r29, D29, g29, h⟩ := h
      have hS29 : h_P D29 ∧ h_E D19 D29 ∧ ∃ mc ms : Nat, hn D19 + mc = hn D29 ∧ hsl D19 + ms = hsl D29 ∧ ∀ {c sl : Nat}, aw_W G "java/util/AbstractCollection" cJ0_addAll (some (.boolean)) 5 13 false M0 Q aw_no c sl 32 [(4, (2, r19)), (0, (2, x0)), (2, (0, x2)), (3, (2, x3))] [(0, r29)] (hM D29) → aw_W G "java/util/AbstractCollection" cJ0_addAll (some (.boolean)) 5 13 false M0 Q aw_no (c + mc) (sl + ms) 29 [(4, (2, r19)), (0, (2, x0)), (2, (0, x2)), (3, (2, x3))] [(2, r19), (2, x0)] (hM D19) := by
        by_cases w29_60 : hk D19 x0 = (60, 0)
        · rw [if_pos w29_60] at g29
          have hR := (h_J2_add_ok (G := G) hP19 g29)
          exact hw_callM (rest := []) hR (fun hc hk9 => x_callU (C := "java/util/ArrayList") (owner := "java/util/AbstractCollection") (as := [(2, r19)]) (rest := []) dJ0_addAll_29 hc q1943 q4706 q4708 (Or.inl ⟨_, _, _, q4717, q4707⟩) q4713 q1941 q401 w29_60 rfl rfl (show _ ∧ _ ∧ _ = some 1 from by decide +kernel) (by decide) (by decide) rfl (Nat.le_of_ble_eq_true rfl) hk9 aw_nox)
        rw [if_neg w29_60] at g29
        by_cases w29_62 : hk D19 x0 = (62, 0)
        · rw [if_pos w29_62] at g29
          have hR := (h_J7_add_ok (G := G) hP19 g29)
          exact hw_callM (rest := []) hR (fun hc hk9 => x_callU (C := "java/util/ArrayDeque") (owner := "java/util/AbstractCollection") (as := [(2, r19)]) (rest := []) dJ0_addAll_29 hc q4711 q4706 q4708 (Or.inl ⟨_, _, _, q4717, q4707⟩) q4709 q4710 q435 w29_62 rfl rfl (show _ ∧ _ ∧ _ = some 1 from by decide +kernel) (by decide) (by decide) rfl (Nat.le_of_ble_eq_true rfl) hk9 aw_nox)
        rw [if_neg w29_62] at g29
        by_cases w29_63 : hk D19 x0 = (63, 0)
        · rw [if_pos w29_63] at g29
          have hR := (h_J9_add_ok (G := G) hP19 g29)
          exact hw_callM (rest := []) hR (fun hc hk9 => x_callU (C := "java/util/HashSet") (owner := "java/util/AbstractCollection") (as := [(2, r19)]) (rest := []) dJ0_addAll_29 hc q3581 q4706 q4708 (Or.inl ⟨_, _, _, q4717, q4707⟩) q4715 q3579 q437 w29_63 rfl rfl (show _ ∧ _ ∧ _ = some 1 from by decide +kernel) (by decide) (by decide) rfl (Nat.le_of_ble_eq_true rfl) hk9 aw_nox)
        rw [if_neg w29_63] at g29
        by_cases w29_77 : hk D19 x0 = (77, 0)
        · rw [if_pos w29_77] at g29
          have hR := (h_J0_add_ok (G := G) hP19 g29)
          exact hw_callM (rest := []) hR (fun hc hk9 => x_callU (C := "java/util/TreeMap$EntrySet") (owner := "java/util/AbstractCollection") (as := [(2, r19)]) (rest := []) dJ0_addAll_29 hc q4717 q4706 q4708 (Or.inl ⟨_, _, _, q4717, q4707⟩) q4716 q4707 q399 w29_77 rfl rfl (show _ ∧ _ ∧ _ = some 1 from by decide +kernel) (by decide) (by decide) rfl (Nat.le_of_ble_eq_true rfl) hk9 aw_nox)
        rw [if_neg w29_77] at g29
        by_cases w29_79 : hk D19 x0 = (79, 0)
        · rw [if_pos w29_79] at g29
          have hR := (h_J0_add_ok (G := G) hP19 g29)
          exact hw_callM (rest := []) hR (fun hc hk9 => x_callU (C := "java/util/HashMap$KeySet") (owner := "java/util/AbstractCollection") (as := [(2, r19)]) (rest := []) dJ0_addAll_29 hc q4717 q4706 q4708 (Or.inl ⟨_, _, _, q4717, q4707⟩) q4714 q4707 q399 w29_79 rfl rfl (show _ ∧ _ ∧ _ = some 1 from by decide +kernel) (by decide) (by decide) rfl (Nat.le_of_ble_eq_true rfl) hk9 aw_nox)
        rw [if_neg w29_79] at g29
        exact absurd g29 (by intro h; cases h)
      obtain ⟨hP29, hE29, hS29⟩ := hS29
      refine hw_go ⟨hE29, hS29⟩ ?_
      by_cases c32 : r29 = 0
      · rw [if_pos c32] at h
        refine hw_1 (fun k => x_if_eq (tgt := 37) dJ0_addAll_32 (by decide) (fun _ => k) (fun z => absurd c32 z)) ?_
        refine hw_1 (fun k => x_goto (tgt := 9) dJ0_addAll_37 (by decide) k) ?_
        refine hw_locs [1, 2, 3] (ls' := [(0, (2, x0)), (2, (0, x2)), (3, (2, x3))]) rfl ?_
        exact ih _ _ _ _ hP29 h
      · rw [if_neg c32] at h
        refine hw_1 (fun k => x_if_eq (tgt := 37) dJ0_addAll_32 (by decide) (fun z => absurd z c32) (fun _ => k)) ?_
        refine hw_1 (fun k => x_iconst dJ0_addAll_35 (by decide) k) ?_
        refine hw_1 (fun k => x_istore_n (ls' := [(2, (0, 1)), (4, (2, r19)), (0, (2, x0)), (3, (2, x3))]) dJ0_addAll_36 (by decide) rfl k) ?_
        refine hw_1 (fun k => x_goto (tgt := 9) dJ0_addAll_37 (by decide) k) ?_
        refine hw_locs [2, 0, 3] (ls' := [(0, (2, x0)), (2, (0, 1)), (3, (2, x3))]) rfl ?_
        exact ih _ _ _ _ hP29 h
theorem h_J0_addAll_ok {G : aw_G} {D D' : ga_D} {r : Int} {x0 x1 : Int} (hP : h_P D) (h : h_J0_addAll x0 x1 D = some (r, D')) : aw_HR yJ0_addAll cJ0_addAll 5 (some (.boolean)) 13 G [(2, x0), (2, x1)] D (some (0, r)) D' := by
  unfold h_J0_addAll at h
  refine hw_body (own := "java/util/AbstractCollection") (ini := false) (ls := [(0, (2, x0)), (1, (2, x1))]) rfl rfl (fun h => by cases h) (Nat.le_of_ble_eq_true rfl) rfl fun Q hq => ?_
  refine hw_1 (fun k => x_iconst dJ0_addAll_0 (by decide) k) ?_
  refine hw_1 (fun k => x_istore_n (ls' := [(2, (0, 0)), (0, (2, x0)), (1, (2, x1))]) dJ0_addAll_1 (by decide) rfl k) ?_
  refine hw_1 (fun k => x_aload_n dJ0_addAll_2 rfl k) ?_
  replace h := ga_bind_some h; obtain ⟨r3, D3, g3, h⟩ := h
  have hS3 : h_P D3 ∧ h_E D D3 ∧ ∃ mc ms : Nat, hn D + mc = hn D3 ∧ hsl D + ms = hsl D3 ∧ ∀ {c sl : Nat}, aw_W G "java/util/AbstractCollection" cJ0_addAll (some (.boolean)) 5 13 false (hM D) Q aw_no c sl 8 [(2, (0, 0)), (0, (2, x0)), (1, (2, x1))] [(2, r3)] (hM D3) → aw_W G "java/util/AbstractCollection" cJ0_addAll (some (.boolean)) 5 13 false (hM D) Q aw_no (c + mc) (sl + ms) 3 [(2, (0, 0)), (0, (2, x0)), (1, (2, x1))] [(2, x1)] (hM D) := by
    by_cases w3_60 : hk D x1 = (60, 0)
    · rw [if_pos w3_60] at g3
      have hR := (h_J2_iterator_ok (G := G) hP g3)
      exact hw_callM (rest := []) hR (fun hc hk9 => x_callF (C := "java/util/ArrayList") (as := []) (rest := []) dJ0_addAll_3 hc q2944 q4660 (by decide +kernel) q4693 q2942 q401 q4695 q4694 q4692 w3_60 rfl rfl (show _ = some 0 from by decide +kernel) (by decide) (by decide) rfl (Nat.le_of_ble_eq_true rfl) hk9 aw_nox)
    rw [if_neg w3_60] at g3
    by_cases w3_62 : hk D x1 = (62, 0)
    · rw [if_pos w3_62] at g3
      have hR := (h_J7_iterator_ok (G := G) hP g3)
      exact hw_callM (rest := []) hR (fun hc hk9 => x_callF (C := "java/util/ArrayDeque") (as := []) (rest := []) dJ0_addAll_3 hc q4668 q4660 (by decide +kernel) q4664 q4666 q435 q4667 q4665 q4663 w3_62 rfl rfl (show _ = some 0 from by decide +kernel) (by decide) (by decide) rfl (Nat.le_of_ble_eq_true rfl) hk9 aw_nox)
    rw [if_neg w3_62] at g3
    by_cases w3_63 : hk D x1 = (63, 0)
    · rw [if_pos w3_63] at g3
      have hR := (h_J9_iterator_ok (G := G) hP g3)
      exact hw_callM (rest := []) hR (fun hc hk9 => x_callF (C := "java/util/HashSet") (as := []) (rest := []) dJ0_addAll_3 hc q4429 q4660 (by decide +kernel) q4699 q4427 q437 q4428 q4426 q4698 w3_63 rfl rfl (show _ = some 0 from by decide +kernel) (by decide) (by decide) rfl (Nat.le_of_ble_eq_true rfl) hk9 aw_nox)
    rw [if_neg w3_63] at g3
    by_cases w3_77 : hk D x1 = (77, 0)
    · rw [if_pos w3_77] at g3
      have hR := (h_J36_iterator_ok (G := G) hP g3)
      exact hw_callM (rest := []) hR (fun hc hk9 => x_callF (C := "java/util/TreeMap$EntrySet") (as := []) (rest := []) dJ0_addAll_3 hc q4451 q4660 (by decide +kernel) q4701 q4449 q494 q4450 q4448 q4700 w3_77 rfl rfl (show _ = some 0 from by decide +kernel) (by decide) (by decide) rfl (Nat.le_of_ble_eq_true rfl) hk9 aw_nox)
    rw [if_neg w3_77] at g3
    by_cases w3_79 : hk D x1 = (79, 0)
    · rw [if_pos w3_79] at g3
      have hR := (h_J39_iterator_ok (G := G) hP g3)
      exact hw_callM (rest := []) hR (fun hc hk9 => x_callF (C := "java/util/HashMap$KeySet") (as := []) (rest := []) dJ0_addAll_3 hc q4398 q4660 (by decide +kernel) q4697 q4396 q497 q4397 q4395 q4696 w3_79 rfl rfl (show _ = some 0 from by decide +kernel) (by decide) (by decide) rfl (Nat.le_of_ble_eq_true rfl) hk9 aw_nox)
    rw [if_neg w3_79] at g3
    exact absurd g3 (by intro h; cases h)
  obtain ⟨hP3, hE3, hS3⟩ := hS3
  refine hw_go ⟨hE3, hS3⟩ ?_
  refine hw_1 (fun k => x_astore_n (ls' := [(3, (2, r3)), (2, (0, 0)), (0, (2, x0)), (1, (2, x1))]) dJ0_addAll_8 (by decide) rfl k) ?_
  refine hw_locs [2, 1, 0] (ls' := [(0, (2, x0)), (2, (0, 0)), (3, (2, r3))]) rfl ?_
  refine h_J0_addAll_l9_ok hq (fun x2 D40 hP h => ?_) hP3 h
  · refine hw_1 (fun k => x_iload_n dJ0_addAll_40 rfl k) ?_
    replace h := ga_ck_some h; obtain ⟨hc41_0, h⟩ := h
    obtain ⟨rfl, rfl⟩ := ga_end h
    exact hw_ret hP (x_iret dJ0_addAll_41 rfl rfl hc41_0 hq)
theorem h_J1_init_ok {G : aw_G} {D D' : ga_D} {r : Int} {x0 : Int} (hx0 : 0 < x0) (hP : h_P D) (h : h_J1_init x0 D = some (r, D')) : aw_HR yJ1_init cJ1_init 1 none 2 G [(2, x0)] D none D' := by
  unfold h_J1_init at h
  refine hw_body (own := "java/util/AbstractList") (ini := true) (ls := [(0, (2, x0))]) rfl rfl (fun _ => rfl) (Nat.le_of_ble_eq_true rfl) rfl fun Q hq => ?_
  refine hw_1 (fun k => x_aload_n dJ1_init_0 rfl k) ?_
  replace h := ga_bind_some h; obtain ⟨r1, D1, g1, h⟩ := h
  have hR1 := (h_J0_init_ok (G := G) hx0 hP g1)
  obtain ⟨hP1, hE1, -⟩ := id hR1
  refine hw_call (rest := []) hR1 (fun hc hk9 => x_callI0 (as := []) (rest := []) dJ1_init_1 hc (lw_meth q602) q399 q600 q601 hx0 rfl (show _ ∧ _ ∧ _ = some 0 from by decide +kernel) (by decide) (by decide) rfl (Nat.le_of_ble_eq_true rfl) hk9 aw_nox) ?_
  refine hw_1 (fun k => x_aload_n dJ1_init_4 rfl k) ?_
  refine hw_1 (fun k => x_iconst dJ1_init_5 (by decide) k) ?_
  replace h := ga_ck_some h; obtain ⟨hc6_0, h⟩ := h
  replace h := ga_let_some h; obtain ⟨D6, eD6, h⟩ := h
  refine hw_set eD6 (Int.le_trans (by decide) (hkge_60 hc6_0)) (by decide) (fun k => x_putf dJ1_init_6 fl_J1_7 rfl hc6_0 (hkge_60 hc6_0) trivial k) ?_
  have hP6 : h_P D6 := hP1.set eD6 (hkge_60 hc6_0) (by decide) (hPn hc6_0 rfl)
  have hE6 : h_E D1 D6 := h_E_set eD6 (by decide)
  obtain ⟨rfl, rfl⟩ := ga_end h
  exact hw_ret hP6 (x_vret dJ1_init_9 rfl hq)
theorem h_J3_init_ok {G : aw_G} {D D' : ga_D} {r : Int} {x0 : Int} (hx0 : 0 < x0) (hP : h_P D) (h : h_J3_init x0 D = some (r, D')) : aw_HR yJ3_init cJ3_init 1 none 1 G [(2, x0)] D none D' := by
  unfold h_J3_init at h
  refine hw_body (own := "java/util/AbstractMap") (ini := true) (ls := [(0, (2, x0))]) rfl rfl (fun _ => rfl) (Nat.le_of_ble_eq_true rfl) rfl fun Q hq => ?_
  refine hw_1 (fun k => x_aload_n dJ3_init_0 rfl k) ?_
  refine hw_1 (fun k => x_objInit0 dJ3_init_1 q629 q512 q513 hx0 (by decide) (Nat.le_of_ble_eq_true rfl) k) ?_
  obtain ⟨rfl, rfl⟩ := ga_end h
  exact hw_ret hP (x_vret dJ3_init_4 rfl hq)
theorem h_J10_init_ok {G : aw_G} {D D' : ga_D} {r : Int} {x0 : Int} (hx0 : 0 < x0) (hP : h_P D) (h : h_J10_init x0 D = some (r, D')) : aw_HR yJ10_init cJ10_init 1 none 2 G [(2, x0)] D none D' := by
  unfold h_J10_init at h
  refine hw_body (own := "java/util/HashMap") (ini := true) (ls := [(0, (2, x0))]) rfl rfl (fun _ => rfl) (Nat.le_of_ble_eq_true rfl) rfl fun Q hq => ?_
  refine hw_1 (fun k => x_aload_n dJ10_init_0 rfl k) ?_
  replace h := ga_bind_some h; obtain ⟨r1, D1, g1, h⟩ := h
  have hR1 := (h_J3_init_ok (G := G) hx0 hP g1)
  obtain ⟨hP1, hE1, -⟩ := id hR1
  refine hw_call (rest := []) hR1 (fun hc hk9 => x_callI0 (as := []) (rest := []) dJ10_init_1 hc (lw_meth q628) q402 q1829 q627 hx0 rfl (show _ ∧ _ ∧ _ = some 0 from by decide +kernel) (by decide) (by decide) rfl (Nat.le_of_ble_eq_true rfl) hk9 aw_nox) ?_
  refine hw_1 (fun k => x_aload_n dJ10_init_4 rfl k) ?_
  refine hw_1 (fun k => x_ldcf (z := 1061158912) dJ10_init_5 q1830 (by decide) (by decide) k) ?_
  replace h := ga_ck_some h; obtain ⟨hc7_0, h⟩ := h
  replace h := ga_let_some h; obtain ⟨D7, eD7, h⟩ := h
  refine hw_set eD7 (Int.le_trans (by decide) (hkge_64 hc7_0)) (by decide) (fun k => x_putfF dJ10_init_7 fl_J10_81 rfl rfl hc7_0 (hkge_64 hc7_0) (show (0 : Int) ≤ 1061158912 ∧ (1061158912 : Int) < 4294967296 from by decide) k) ?_
  have hP7 : h_P D7 := hP1.set eD7 (hkge_64 hc7_0) (by decide) (hPn hc7_0 rfl)
  have hE7 : h_E D1 D7 := h_E_set eD7 (by decide)
  obtain ⟨rfl, rfl⟩ := ga_end h
  exact hw_ret hP7 (x_vret dJ10_init_10 rfl hq)
theorem h_J22_canEncode_ok {G : aw_G} {D D' : ga_D} {r : Int} {x0 : Int} (hP : h_P D) (h : h_J22_canEncode x0 D = some (r, D')) : aw_HR yJ22_canEncode cJ22_canEncode 1 (some (.boolean)) 0 G [(0, x0)] D (some (0, r)) D' := by
  unfold h_J22_canEncode at h
  refine hw_body (own := "java/lang/StringLatin1") (ini := false) (ls := [(0, (0, x0))]) rfl rfl (fun h => by cases h) (Nat.le_of_ble_eq_true rfl) rfl fun Q hq => ?_
  refine hw_1 (fun k => x_iload_n dJ22_canEncode_0 rfl k) ?_
  refine hw_1 (fun k => x_sipush dJ22_canEncode_1 (by decide) k) ?_
  by_cases c4 : 255 < x0
  · rw [if_pos c4] at h
    refine hw_1 (fun k => x_icmp_gt (tgt := 11) dJ22_canEncode_4 (by decide) (fun _ => k) (fun z => absurd c4 z)) ?_
    refine hw_1 (fun k => x_iconst dJ22_canEncode_11 (by decide) k) ?_
    obtain ⟨rfl, rfl⟩ := ga_end h
    exact hw_ret hP (x_iret dJ22_canEncode_12 rfl rfl (show (0 : Int) ≤ 0 ∧ (0 : Int) < 2 from by decide) hq)
  · rw [if_neg c4] at h
    refine hw_1 (fun k => x_icmp_gt (tgt := 11) dJ22_canEncode_4 (by decide) (fun z => absurd z c4) (fun _ => k)) ?_
    refine hw_1 (fun k => x_iconst dJ22_canEncode_7 (by decide) k) ?_
    refine hw_1 (fun k => x_goto (tgt := 12) dJ22_canEncode_8 (by decide) k) ?_
    obtain ⟨rfl, rfl⟩ := ga_end h
    exact hw_ret hP (x_iret dJ22_canEncode_12 rfl rfl (show (0 : Int) ≤ 1 ∧ (1 : Int) < 2 from by decide) hq)
theorem h_J23_checkIndex_j9_ok {G : aw_G} {M0 : aw_M} {D' : ga_D} {Q : Option aw_V → aw_M → Prop} {r : Int} (hq : Q (some (0, r)) (hM D')) {x0 x1 x2 : Int} {D : ga_D} (hP : h_P D) (h : h_J23_checkIndex_j9 x0 x1 x2 D = some (r, D')) : aw_HW G "jdk/internal/util/Preconditions" cJ23_checkIndex (some (.int)) 3 0 false M0 Q aw_no D' (hn D') (hsl D') 9 [(0, (0, x0)), (1, (0, x1)), (2, (2, x2))] [] D := by
  unfold h_J23_checkIndex_j9 at h
  refine hw_1 (fun k => x_aload_n dJ23_checkIndex_9 rfl k) ?_
  refine hw_1 (fun k => x_iload_n dJ23_checkIndex_10 rfl k) ?_
  refine hw_1 (fun k => x_iload_n dJ23_checkIndex_11 rfl k) ?_
  exact absurd h (by intro h; cases h)
theorem h_J23_checkIndex_ok {G : aw_G} {D D' : ga_D} {r : Int} {x0 x1 x2 : Int} (hP : h_P D) (h : h_J23_checkIndex x0 x1 x2 D = some (r, D')) : aw_HR yJ23_checkIndex cJ23_checkIndex 3 (some (.int)) 0 G [(0, x0), (0, x1), (2, x2)] D (some (0, r)) D' := by
  unfold h_J23_checkIndex at h
  refine hw_body (own := "jdk/internal/util/Preconditions") (ini := false) (ls := [(0, (0, x0)), (1, (0, x1)), (2, (2, x2))]) rfl rfl (fun h => by cases h) (Nat.le_of_ble_eq_true rfl) rfl fun Q hq => ?_
  refine hw_1 (fun k => x_iload_n dJ23_checkIndex_0 rfl k) ?_
  by_cases c1 : x0 < 0
  · rw [if_pos c1] at h
    refine hw_1 (fun k => x_if_lt (tgt := 9) dJ23_checkIndex_1 (by decide) (fun _ => k) (fun z => absurd c1 z)) ?_
    refine h_J23_checkIndex_j9_ok hq hP h
  · rw [if_neg c1] at h
    refine hw_1 (fun k => x_if_lt (tgt := 9) dJ23_checkIndex_1 (by decide) (fun z => absurd z c1) (fun _ => k)) ?_
    refine hw_1 (fun k => x_iload_n dJ23_checkIndex_4 rfl k) ?_
    refine hw_1 (fun k => x_iload_n dJ23_checkIndex_5 rfl k) ?_
    by_cases c6 : x0 < x1
    · rw [if_pos c6] at h
      refine hw_1 (fun k => x_icmp_lt (tgt := 16) dJ23_checkIndex_6 (by decide) (fun _ => k) (fun z => absurd c6 z)) ?_
      refine hw_1 (fun k => x_iload_n dJ23_checkIndex_16 rfl k) ?_
      obtain ⟨rfl, rfl⟩ := ga_end h
      exact hw_ret hP (x_iret dJ23_checkIndex_17 rfl rfl trivial hq)
    · rw [if_neg c6] at h
      refine hw_1 (fun k => x_icmp_lt (tgt := 16) dJ23_checkIndex_6 (by decide) (fun z => absurd z c6) (fun _ => k)) ?_
      refine h_J23_checkIndex_j9_ok hq hP h
theorem h_J18_append_j56_ok {G : aw_G} {M0 : aw_M} {D' : ga_D} {Q : Option aw_V → aw_M → Prop} {r : Int} (hq : Q (some (2, r)) (hM D')) {x0 x1 : Int} {D : ga_D} (hP : h_P D) (h : h_J18_append_j56 x0 x1 D = some (r, D')) : aw_HW G "java/lang/AbstractStringBuilder" cJ18_append (some (.object "java/lang/AbstractStringBuilder")) 2 5 false M0 Q aw_no D' (hn D') (hsl D') 56 [(0, (2, x0)), (1, (0, x1))] [] D := by
  unfold h_J18_append_j56 at h
  refine hw_1 (fun k => x_aload_n dJ18_append_56 rfl k) ?_
  replace h := ga_ck_some h; obtain ⟨hc57_0, h⟩ := h
  refine hw_1 (fun k => x_getf (v := D x0 0) dJ18_append_57 fl_J18_15 hc57_0 rfl k) ?_
  refine hw_1 (fun k => x_aload_n dJ18_append_60 rfl k) ?_
  refine hw_1 (fun k => x_dup dJ18_append_61 rfl k) ?_
  refine hw_1 (fun k => x_getf (v := D x0 3) dJ18_append_62 fl_J18_79 hc57_0 rfl k) ?_
  refine hw_1 (fun k => x_dup_x1 dJ18_append_65 rfl rfl k) ?_
  refine hw_1 (fun k => x_iconst dJ18_append_66 (by decide) k) ?_
  refine hw_1 (fun k => x_iadd dJ18_append_67 rfl k) ?_
  replace h := ga_let_some h; obtain ⟨D68, eD68, h⟩ := h
  refine hw_set eD68 (Int.le_trans (by decide) (hkge_68 hc57_0)) (by decide) (fun k => x_putf dJ18_append_68 fl_J18_79 rfl hc57_0 (hkge_68 hc57_0) trivial k) ?_
  have hP68 : h_P D68 := hP.set eD68 (hkge_68 hc57_0) (by decide) (hPn hc57_0 rfl)
  have hE68 : h_E D D68 := h_E_set eD68 (by decide)
  refine hw_1 (fun k => x_iload_n dJ18_append_71 rfl k) ?_
  exact absurd h (by intro h; cases h)
theorem h_J18_append_j45_ok {G : aw_G} {M0 : aw_M} {D' : ga_D} {Q : Option aw_V → aw_M → Prop} {r : Int} (hq : Q (some (2, r)) (hM D')) {x0 x1 : Int} {D : ga_D} (hP : h_P D) (h : h_J18_append_j45 x0 x1 D = some (r, D')) : aw_HW G "java/lang/AbstractStringBuilder" cJ18_append (some (.object "java/lang/AbstractStringBuilder")) 2 5 false M0 Q aw_no D' (hn D') (hsl D') 45 [(0, (2, x0)), (1, (0, x1))] [] D := by
  unfold h_J18_append_j45 at h
  refine hw_1 (fun k => x_aload_n dJ18_append_45 rfl k) ?_
  replace h := ga_ck_some h; obtain ⟨hc46_0, h⟩ := h
  replace h := ga_bind_some h; obtain ⟨r46, D46, g46, h⟩ := h
  have hR46 := (h_J18_isLatin1_ok (G := G) hP g46)
  obtain ⟨hP46, hE46, -⟩ := id hR46
  refine hw_call (rest := []) hR46 (fun hc hk9 => x_callU (C := "java/lang/StringBuilder") (owner := "java/lang/AbstractStringBuilder") (as := []) (rest := []) dJ18_append_46 hc q2683 q2679 q2681 (Or.inl ⟨_, _, _, q2683, q2680⟩) q2682 q2680 q469 hc46_0 rfl rfl (show _ ∧ _ ∧ _ = some 0 from by decide +kernel) (by decide) (by decide) rfl (Nat.le_of_ble_eq_true rfl) hk9 aw_nox) ?_
  by_cases c49 : r46 = 0
  · rw [if_pos c49] at h
    refine hw_1 (fun k => x_if_eq (tgt := 56) dJ18_append_49 (by decide) (fun _ => k) (fun z => absurd c49 z)) ?_
    refine h_J18_append_j56_ok hq hP46 h
  · rw [if_neg c49] at h
    refine hw_1 (fun k => x_if_eq (tgt := 56) dJ18_append_49 (by decide) (fun z => absurd z c49) (fun _ => k)) ?_
    refine hw_1 (fun k => x_aload_n dJ18_append_52 rfl k) ?_
    exact absurd h (by intro h; cases h)
theorem h_J18_append_ok {G : aw_G} {D D' : ga_D} {r : Int} {x0 x1 : Int} (hP : h_P D) (h : h_J18_append x0 x1 D = some (r, D')) : aw_HR yJ18_append cJ18_append 2 (some (.object "java/lang/AbstractStringBuilder")) 5 G [(2, x0), (0, x1)] D (some (2, r)) D' := by
  unfold h_J18_append at h
  refine hw_body (own := "java/lang/AbstractStringBuilder") (ini := false) (ls := [(0, (2, x0)), (1, (0, x1))]) rfl rfl (fun h => by cases h) (Nat.le_of_ble_eq_true rfl) rfl fun Q hq => ?_
  refine hw_1 (fun k => x_aload_n dJ18_append_0 rfl k) ?_
  refine hw_1 (fun k => x_aload_n dJ18_append_1 rfl k) ?_
  replace h := ga_ck_some h; obtain ⟨hc2_0, h⟩ := h
  refine hw_1 (fun k => x_getf (v := D x0 3) dJ18_append_2 fl_J18_79 hc2_0 rfl k) ?_
  refine hw_1 (fun k => x_iconst dJ18_append_5 (by decide) k) ?_
  refine hw_1 (fun k => x_iadd dJ18_append_6 rfl k) ?_
  replace h := ga_bind_some h; obtain ⟨r7, D7, g7, h⟩ := h
  have hR7 := (h_J18_ensureCapacityInternal_ok (G := G) hP g7)
  obtain ⟨hP7, hE7, -⟩ := id hR7
  refine hw_call (rest := []) hR7 (fun hc hk9 => x_callP (C := "java/lang/StringBuilder") (cN2 := 0) (as := [(0, aw_w32 ((D x0 3) + 1))]) (rest := []) dJ18_append_7 hc q2664 q2661 q9591 q2662 q2624 q2682 rfl q2663 q469 hc2_0 rfl rfl (show _ ∧ _ ∧ _ = some 1 from by decide +kernel) (by decide) (by decide) rfl (Nat.le_of_ble_eq_true rfl) hk9 aw_nox) ?_
  refine hw_1 (fun k => x_aload_n dJ18_append_10 rfl k) ?_
  replace h := ga_bind_some h; obtain ⟨r11, D11, g11, h⟩ := h
  have hR11 := (h_J18_isLatin1_ok (G := G) hP7 g11)
  obtain ⟨hP11, hE11, -⟩ := id hR11
  refine hw_call (rest := []) hR11 (fun hc hk9 => x_callU (C := "java/lang/StringBuilder") (owner := "java/lang/AbstractStringBuilder") (as := []) (rest := []) dJ18_append_11 hc q2683 q2679 q2681 (Or.inl ⟨_, _, _, q2683, q2680⟩) q2682 q2680 q469 (h_kx hE7 hc2_0 (by decide)) rfl rfl (show _ ∧ _ ∧ _ = some 0 from by decide +kernel) (by decide) (by decide) rfl (Nat.le_of_ble_eq_true rfl) hk9 aw_nox) ?_
  by_cases c14 : r11 = 0
  · rw [if_pos c14] at h
    refine hw_1 (fun k => x_if_eq (tgt := 45) dJ18_append_14 (by decide) (fun _ => k) (fun z => absurd c14 z)) ?_
    refine h_J18_append_j45_ok hq hP11 h
  · rw [if_neg c14] at h
    refine hw_1 (fun k => x_if_eq (tgt := 45) dJ18_append_14 (by decide) (fun z => absurd z c14) (fun _ => k)) ?_
    refine hw_1 (fun k => x_iload_n dJ18_append_17 rfl k) ?_
    replace h := ga_bind_some h; obtain ⟨r18, D18, g18, h⟩ := h
    have hR18 := (h_J22_canEncode_ok (G := G) hP11 g18)
    obtain ⟨hP18, hE18, -⟩ := id hR18
    refine hw_call (rest := []) hR18 (fun hc hk9 => x_callS (as := [(0, x1)]) (rest := []) dJ18_append_18 hc (lw_S q2684 q2685 q473 q2686) (show _ ∧ _ ∧ _ = some 1 from by decide +kernel) (by decide) (by decide) rfl (Nat.le_of_ble_eq_true rfl) hk9 aw_nox) ?_
    by_cases c21 : r18 = 0
    · rw [if_pos c21] at h
      refine hw_1 (fun k => x_if_eq (tgt := 45) dJ18_append_21 (by decide) (fun _ => k) (fun z => absurd c21 z)) ?_
      refine h_J18_append_j45_ok hq hP18 h
    · rw [if_neg c21] at h
      refine hw_1 (fun k => x_if_eq (tgt := 45) dJ18_append_21 (by decide) (fun z => absurd z c21) (fun _ => k)) ?_
      refine hw_1 (fun k => x_aload_n dJ18_append_24 rfl k) ?_
      refine hw_1 (fun k => x_getf (v := D18 x0 0) dJ18_append_25 fl_J18_15 (h_kx hE18 (h_kx hE11 (h_kx hE7 hc2_0 (by decide)) (by decide)) (by decide)) rfl k) ?_
      refine hw_1 (fun k => x_aload_n dJ18_append_28 rfl k) ?_
      refine hw_1 (fun k => x_dup dJ18_append_29 rfl k) ?_
      refine hw_1 (fun k => x_getf (v := D18 x0 3) dJ18_append_30 fl_J18_79 (h_kx hE18 (h_kx hE11 (h_kx hE7 hc2_0 (by decide)) (by decide)) (by decide)) rfl k) ?_
      refine hw_1 (fun k => x_dup_x1 dJ18_append_33 rfl rfl k) ?_
      refine hw_1 (fun k => x_iconst dJ18_append_34 (by decide) k) ?_
      refine hw_1 (fun k => x_iadd dJ18_append_35 rfl k) ?_
      replace h := ga_let_some h; obtain ⟨D36, eD36, h⟩ := h
      refine hw_set eD36 (Int.le_trans (by decide) (hkge_68 (h_kx hE18 (h_kx hE11 (h_kx hE7 hc2_0 (by decide)) (by decide)) (by decide)))) (by decide) (fun k => x_putf dJ18_append_36 fl_J18_79 rfl (h_kx hE18 (h_kx hE11 (h_kx hE7 hc2_0 (by decide)) (by decide)) (by decide)) (hkge_68 (h_kx hE18 (h_kx hE11 (h_kx hE7 hc2_0 (by decide)) (by decide)) (by decide))) trivial k) ?_
      have hP36 : h_P D36 := hP18.set eD36 (hkge_68 (h_kx hE18 (h_kx hE11 (h_kx hE7 hc2_0 (by decide)) (by decide)) (by decide))) (by decide) (hPn (h_kx hE18 (h_kx hE11 (h_kx hE7 hc2_0 (by decide)) (by decide)) (by decide)) rfl)
      have hE36 : h_E D18 D36 := h_E_set eD36 (by decide)
      refine hw_1 (fun k => x_iload_n dJ18_append_39 rfl k) ?_
      refine hw_1 (fun k => x_i2b dJ18_append_40 rfl k) ?_
      replace h := ga_ck_some h; obtain ⟨hc41_0, h⟩ := h
      replace h := ga_ck_some h; obtain ⟨hc41_1, h⟩ := h
      replace h := ga_ck_some h; obtain ⟨hc41_2, h⟩ := h
      replace h := ga_let_some h; obtain ⟨D41, eD41, h⟩ := h
      refine hw_set eD41 (Int.le_trans (by decide) hc41_1) hc41_2.1 (fun k => x_bast dJ18_append_41 (hk_p hc41_0) hc41_1 hc41_2.1 hc41_2.2.1 hc41_2.2.2 k) ?_
      have hP41 : h_P D41 := hP36.set eD41 hc41_1 hc41_2.1 (hPn (hk_p hc41_0) rfl)
      have hE41 : h_E D36 D41 := h_E_set eD41 hc41_2.1
      refine hw_1 (fun k => x_goto (tgt := 75) dJ18_append_42 (by decide) k) ?_
      refine hw_1 (fun k => x_aload_n dJ18_append_75 rfl k) ?_
      obtain ⟨rfl, rfl⟩ := ga_end h
      exact hw_ret hP41 (x_aret dJ18_append_76 rfl (by first | exact Or.inl ⟨_, rfl⟩ | exact Or.inr ⟨_, rfl⟩) hq)
theorem h_J30_stringSize_l20_ok {G : aw_G} {M0 : aw_M} {D' : ga_D} {Q : Option aw_V → aw_M → Prop} {r : Int} (hq : Q (some (0, r)) (hM D')) {k33 : Int → Int → ga_D → ga_S} {k50 : Int → ga_D → ga_S} (hk33 : ∀ (x2 x5 : Int) (D : ga_D), h_P D → k33 x2 x5 D = some (r, D') → aw_HW G "java/lang/Long" cJ30_stringSize (some (.int)) 6 0 false M0 Q aw_no D' (hn D') (hsl D') 33 [(2, (0, x2)), (5, (0, x5))] [] D) (hk50 : ∀ (x2 : Int) (D : ga_D), h_P D → k50 x2 D = some (r, D') → aw_HW G "java/lang/Long" cJ30_stringSize (some (.int)) 6 0 false M0 Q aw_no D' (hn D') (hsl D') 50 [(2, (0, x2))] [] D) : ∀ {n : Nat} {x0 x2 x3 x5 : Int} {D : ga_D}, h_P D → h_J30_stringSize_l20 n x0 x2 x3 x5 D k33 k50 = some (r, D') → aw_HW G "java/lang/Long" cJ30_stringSize (some (.int)) 6 0 false M0 Q aw_no D' (hn D') (hsl D') 20 [(0, (1, x0)), (2, (0, x2)), (3, (1, x3)), (5, (0, x5))] [] D := by
  intro n
  induction n with
  | zero => intro x0 x2 x3 x5 D hP h; exact absurd (h : (none : ga_S) = some (r, D')) (by intro h; cases h)
  | succ n ih =>
    intro x0 x2 x3 x5 D hP h
    have ih : ∀ (x0 x2 x3 x5 : Int) (D : ga_D), h_P D → h_J30_stringSize_l20 n x0 x2 x3 x5 D k33 k50 = some (r, D') → aw_HW G "java/lang/Long" cJ30_stringSize (some (.int)) 6 0 false M0 Q aw_no D' (hn D') (hsl D') 20 [(0, (1, x0)), (2, (0, x2)), (3, (1, x3)), (5, (0, x5))] [] D := fun x0 x2 x3 x5 D hP h => ih hP h
    replace h : (if 19 ≤ x5 then (k50 x2 D) else (if x0 ≤ x3 then (ga_let (aw_w64 (10 * x3)) (fun v43 => ga_let (aw_w32 (x5 + 1)) (fun v44 => h_J30_stringSize_l20 n x0 x2 v43 v44 D k33 k50))) else (k33 x2 x5 D)) : ga_S) = some (r, D') := h
    refine hw_1 (fun k => x_iload dJ30_stringSize_20 rfl k) ?_
    refine hw_1 (fun k => x_bipush dJ30_stringSize_22 (by decide) k) ?_
    by_cases c24 : 19 ≤ x5
    · rw [if_pos c24] at h
      refine hw_1 (fun k => x_icmp_ge (tgt := 50) dJ30_stringSize_24 (by decide) (fun _ => k) (fun z => absurd c24 z)) ?_
      refine hw_locs [1] (ls' := [(2, (0, x2))]) rfl ?_
      exact hk50 _ _ hP h
    · rw [if_neg c24] at h
      refine hw_1 (fun k => x_icmp_ge (tgt := 50) dJ30_stringSize_24 (by decide) (fun z => absurd z c24) (fun _ => k)) ?_
      refine hw_1 (fun k => x_lload_n dJ30_stringSize_27 rfl k) ?_
      refine hw_1 (fun k => x_lload_n dJ30_stringSize_28 rfl k) ?_
      refine hw_1 (fun k => x_lcmp dJ30_stringSize_29 rfl k) ?_
      by_cases c30 : x0 ≤ x3
      · rw [if_pos c30] at h
        refine hw_1 (fun k => x_if_le (tgt := 38) dJ30_stringSize_30 (by decide) (fun _ => k) (fun z => absurd (cmi_le.mpr c30) z)) ?_
        refine hw_1 (fun k => x_ldc2 (z := 10) dJ30_stringSize_38 q6548 (by decide) k) ?_
        refine hw_1 (fun k => x_lload_n dJ30_stringSize_41 rfl k) ?_
        refine hw_1 (fun k => x_lmul dJ30_stringSize_42 rfl k) ?_
        replace h := ga_let_some h; obtain ⟨v43, ev43, h⟩ := h
        refine hw_nm ev43 ?_
        refine hw_1 (fun k => x_lstore_n (ls' := [(3, (1, v43)), (0, (1, x0)), (2, (0, x2)), (5, (0, x5))]) dJ30_stringSize_43 (by decide) rfl k) ?_
        replace h := ga_let_some h; obtain ⟨v44, ev44, h⟩ := h
        refine hw_1 (fun k => x_iinc (ls' := [(5, (0, v44)), (3, (1, v43)), (0, (1, x0)), (2, (0, x2))]) dJ30_stringSize_44 rfl ev44.symm (by decide) rfl k) ?_
        refine hw_1 (fun k => x_goto (tgt := 20) dJ30_stringSize_47 (by decide) k) ?_
        refine hw_locs [2, 3, 1, 0] (ls' := [(0, (1, x0)), (2, (0, x2)), (3, (1, v43)), (5, (0, v44))]) rfl ?_
        exact ih _ _ _ _ _ hP h
      · rw [if_neg c30] at h
        refine hw_1 (fun k => x_if_le (tgt := 38) dJ30_stringSize_30 (by decide) (fun z => absurd (cmi_le.mp z) c30) (fun _ => k)) ?_
        refine hw_locs [1, 3] (ls' := [(2, (0, x2)), (5, (0, x5))]) rfl ?_
        exact hk33 _ _ _ hP h
theorem h_J30_stringSize_ok {G : aw_G} {D D' : ga_D} {r : Int} {x0 : Int} (hP : h_P D) (h : h_J30_stringSize x0 D = some (r, D')) : aw_HR yJ30_stringSize cJ30_stringSize 6 (some (.int)) 0 G [(1, x0)] D (some (0, r)) D' := by
  unfold h_J30_stringSize at h
  refine hw_body (own := "java/lang/Long") (ini := false) (ls := [(0, (1, x0))]) rfl rfl (fun h => by cases h) (Nat.le_of_ble_eq_true rfl) rfl fun Q hq => ?_
  refine hw_1 (fun k => x_iconst dJ30_stringSize_0 (by decide) k) ?_
  refine hw_1 (fun k => x_istore_n (ls' := [(2, (0, 1)), (0, (1, x0))]) dJ30_stringSize_1 (by decide) rfl k) ?_
  refine hw_1 (fun k => x_lload_n dJ30_stringSize_2 rfl k) ?_
  refine hw_1 (fun k => x_lconst (v := 0) dJ30_stringSize_3 rfl k) ?_
  refine hw_1 (fun k => x_lcmp dJ30_stringSize_4 rfl k) ?_
  by_cases c5 : x0 < 0
  · rw [if_pos c5] at h
    refine hw_1 (fun k => x_if_lt (tgt := 13) dJ30_stringSize_5 (by decide) (fun _ => k) (fun z => absurd (cmi_lt.mpr c5) z)) ?_
    refine hw_1 (fun k => x_ldc2 (z := (-10)) dJ30_stringSize_13 q6547 (by decide) k) ?_
    refine hw_1 (fun k => x_lstore_n (ls' := [(3, (1, (-10))), (2, (0, 1)), (0, (1, x0))]) dJ30_stringSize_16 (by decide) rfl k) ?_
    refine hw_1 (fun k => x_iconst dJ30_stringSize_17 (by decide) k) ?_
    refine hw_1 (fun k => x_istore (ls' := [(5, (0, 1)), (3, (1, (-10))), (2, (0, 1)), (0, (1, x0))]) dJ30_stringSize_18 (by decide) rfl k) ?_
    refine hw_locs [3, 2, 1, 0] (ls' := [(0, (1, x0)), (2, (0, 1)), (3, (1, (-10))), (5, (0, 1))]) rfl ?_
    refine h_J30_stringSize_l20_ok hq (fun x2 x5 D33 hP h => ?_) (fun x2 D50 hP h => ?_) hP h
    · refine hw_1 (fun k => x_iload dJ30_stringSize_33 rfl k) ?_
      refine hw_1 (fun k => x_iload_n dJ30_stringSize_35 rfl k) ?_
      refine hw_1 (fun k => x_iadd dJ30_stringSize_36 rfl k) ?_
      obtain ⟨rfl, rfl⟩ := ga_end h
      exact hw_ret hP (x_iret dJ30_stringSize_37 rfl rfl trivial hq)
    · refine hw_1 (fun k => x_bipush dJ30_stringSize_50 (by decide) k) ?_
      refine hw_1 (fun k => x_iload_n dJ30_stringSize_52 rfl k) ?_
      refine hw_1 (fun k => x_iadd dJ30_stringSize_53 rfl k) ?_
      obtain ⟨rfl, rfl⟩ := ga_end h
      exact hw_ret hP (x_iret dJ30_stringSize_54 rfl rfl trivial hq)
  · rw [if_neg c5] at h
    refine hw_1 (fun k => x_if_lt (tgt := 13) dJ30_stringSize_5 (by decide) (fun z => absurd (cmi_lt.mp z) c5) (fun _ => k)) ?_
    refine hw_1 (fun k => x_iconst dJ30_stringSize_8 (by decide) k) ?_
    refine hw_1 (fun k => x_istore_n (ls' := [(2, (0, 0)), (0, (1, x0))]) dJ30_stringSize_9 (by decide) rfl k) ?_
    refine hw_1 (fun k => x_lload_n dJ30_stringSize_10 rfl k) ?_
    refine hw_1 (fun k => x_lneg dJ30_stringSize_11 rfl k) ?_
    replace h := ga_let_some h; obtain ⟨v12, ev12, h⟩ := h
    refine hw_nm ev12 ?_
    refine hw_1 (fun k => x_lstore_n (ls' := [(0, (1, v12)), (2, (0, 0))]) dJ30_stringSize_12 (by decide) rfl k) ?_
    refine hw_1 (fun k => x_ldc2 (z := (-10)) dJ30_stringSize_13 q6547 (by decide) k) ?_
    refine hw_1 (fun k => x_lstore_n (ls' := [(3, (1, (-10))), (0, (1, v12)), (2, (0, 0))]) dJ30_stringSize_16 (by decide) rfl k) ?_
    refine hw_1 (fun k => x_iconst dJ30_stringSize_17 (by decide) k) ?_
    refine hw_1 (fun k => x_istore (ls' := [(5, (0, 1)), (3, (1, (-10))), (0, (1, v12)), (2, (0, 0))]) dJ30_stringSize_18 (by decide) rfl k) ?_
    refine hw_locs [2, 3, 1, 0] (ls' := [(0, (1, v12)), (2, (0, 0)), (3, (1, (-10))), (5, (0, 1))]) rfl ?_
    refine h_J30_stringSize_l20_ok hq (fun x2 x5 D33 hP h => ?_) (fun x2 D50 hP h => ?_) hP h
    · refine hw_1 (fun k => x_iload dJ30_stringSize_33 rfl k) ?_
      refine hw_1 (fun k => x_iload_n dJ30_stringSize_35 rfl k) ?_
      refine hw_1 (fun k => x_iadd dJ30_stringSize_36 rfl k) ?_
      obtain ⟨rfl, rfl⟩ := ga_end h
      exact hw_ret hP (x_iret dJ30_stringSize_37 rfl rfl trivial hq)
    · refine hw_1 (fun k => x_bipush dJ30_stringSize_50 (by decide) k) ?_
      refine hw_1 (fun k => x_iload_n dJ30_stringSize_52 rfl k) ?_
      refine hw_1 (fun k => x_iadd dJ30_stringSize_53 rfl k) ?_
      obtain ⟨rfl, rfl⟩ := ga_end h
      exact hw_ret hP (x_iret dJ30_stringSize_54 rfl rfl trivial hq)
theorem h_J30_getChars_l24_ok {G : aw_G} {M0 : aw_M} {D' : ga_D} {Q : Option aw_V → aw_M → Prop} {r : Int} (hq : Q (some (0, r)) (hM D')) {k82 : Int → Int → Int → Int → ga_D → ga_S} (hk82 : ∀ (x0 x3 x7 x8 : Int) (D : ga_D), h_P D → k82 x0 x3 x7 x8 D = some (r, D') → aw_HW G "java/lang/Long" cJ30_getChars (some (.int)) 11 0 false M0 Q aw_no D' (hn D') (hsl D') 82 [(0, (1, x0)), (3, (2, x3)), (7, (0, x7)), (8, (0, x8))] [] D) : ∀ {n : Nat} {x0 x3 x7 x8 : Int} {D : ga_D}, h_P D → h_J30_getChars_l24 n x0 x3 x7 x8 D k82 = some (r, D') → aw_HW G "java/lang/Long" cJ30_getChars (some (.int)) 11 0 false M0 Q aw_no D' (hn D') (hsl D') 24 [(0, (1, x0)), (3, (2, x3)), (7, (0, x7)), (8, (0, x8))] [] D := by
  intro n
  induction n with
  | zero => intro x0 x3 x7 x8 D hP h; exact absurd (h : (none : ga_S) = some (r, D')) (by intro h; cases h)
  | succ n ih =>
    intro x0 x3 x7 x8 D hP h
    have ih : ∀ (x0 x3 x7 x8 : Int) (D : ga_D), h_P D → h_J30_getChars_l24 n x0 x3 x7 x8 D k82 = some (r, D') → aw_HW G "java/lang/Long" cJ30_getChars (some (.int)) 11 0 false M0 Q aw_no D' (hn D') (hsl D') 24 [(0, (1, x0)), (3, (2, x3)), (7, (0, x7)), (8, (0, x8))] [] D := fun x0 x3 x7 x8 D hP h => ih hP h
    replace h : (if (-2147483648) < x0 then (k82 x0 x3 x7 x8 D) else (ga_let (aw_w64 (Int.tdiv x0 100)) (fun v37 => ga_let (aw_w32 (aw_w64 ((aw_w64 (v37 * 100)) - x0))) (fun v48 => ga_let (aw_w32 (x7 + (-1))) (fun v54 => ga_ck (0 ≤ v48 ∧ v48 < 100) (ga_ck ((hk D x3).1 = 1002) (ga_ck (4096 ≤ x3) (ga_ck (0 ≤ v54 ∧ v54 < (hk D x3).2 ∧ (-128) ≤ D 152 v48 ∧ D 152 v48 < 128) (ga_let (ga_set D x3 v54 (D 152 v48)) (fun D65 => ga_let (aw_w32 (v54 + (-1))) (fun v67 => ga_ck (0 ≤ v48 ∧ v48 < 100) (ga_ck (0 ≤ v67 ∧ v67 < (hk D x3).2 ∧ (-128) ≤ D65 153 v48 ∧ D65 153 v48 < 128) (ga_let (ga_set D65 x3 v67 (D65 153 v48)) (fun D78 => h_J30_getChars_l24 n v37 x3 v67 x8 D78 k82))))))))))))) : ga_S) = some (r, D') := h
    refine hw_1 (fun k => x_lload_n dJ30_getChars_24 rfl k) ?_
    refine hw_1 (fun k => x_ldc2 (z := (-2147483648)) dJ30_getChars_25 q6552 (by decide) k) ?_
    refine hw_1 (fun k => x_lcmp dJ30_getChars_28 rfl k) ?_
    by_cases c29 : (-2147483648) < x0
    · rw [if_pos c29] at h
      refine hw_1 (fun k => x_if_gt (tgt := 82) dJ30_getChars_29 (by decide) (fun _ => k) (fun z => absurd (cmi_gt.mpr c29) z)) ?_
      exact hk82 _ _ _ _ _ hP h
    · rw [if_neg c29] at h
      refine hw_1 (fun k => x_if_gt (tgt := 82) dJ30_getChars_29 (by decide) (fun z => absurd (cmi_gt.mp z) c29) (fun _ => k)) ?_
      refine hw_1 (fun k => x_lload_n dJ30_getChars_32 rfl k) ?_
      refine hw_1 (fun k => x_ldc2 (z := 100) dJ30_getChars_33 q6553 (by decide) k) ?_
      refine hw_1 (fun k => x_ldiv dJ30_getChars_36 (by decide) rfl k) ?_
      replace h := ga_let_some h; obtain ⟨v37, ev37, h⟩ := h
      refine hw_nm ev37 ?_
      refine hw_1 (fun k => x_lstore (ls' := [(4, (1, v37)), (0, (1, x0)), (3, (2, x3)), (7, (0, x7)), (8, (0, x8))]) dJ30_getChars_37 (by decide) rfl k) ?_
      refine hw_1 (fun k => x_lload dJ30_getChars_39 rfl k) ?_
      refine hw_1 (fun k => x_ldc2 (z := 100) dJ30_getChars_41 q6553 (by decide) k) ?_
      refine hw_1 (fun k => x_lmul dJ30_getChars_44 rfl k) ?_
      refine hw_1 (fun k => x_lload_n dJ30_getChars_45 rfl k) ?_
      refine hw_1 (fun k => x_lsub dJ30_getChars_46 rfl k) ?_
      refine hw_1 (fun k => x_l2i dJ30_getChars_47 rfl k) ?_
      replace h := ga_let_some h; obtain ⟨v48, ev48, h⟩ := h
      refine hw_nm ev48 ?_
      refine hw_1 (fun k => x_istore (ls' := [(6, (0, v48)), (4, (1, v37)), (0, (1, x0)), (3, (2, x3)), (7, (0, x7)), (8, (0, x8))]) dJ30_getChars_48 (by decide) rfl k) ?_
      refine hw_1 (fun k => x_lload dJ30_getChars_50 rfl k) ?_
      refine hw_1 (fun k => x_lstore_n (ls' := [(0, (1, v37)), (6, (0, v48)), (4, (1, v37)), (3, (2, x3)), (7, (0, x7)), (8, (0, x8))]) dJ30_getChars_52 (by decide) rfl k) ?_
      refine hw_1 (fun k => x_aload_n dJ30_getChars_53 rfl k) ?_
      replace h := ga_let_some h; obtain ⟨v54, ev54, h⟩ := h
      refine hw_1 (fun k => x_iinc (ls' := [(7, (0, v54)), (0, (1, v37)), (6, (0, v48)), (4, (1, v37)), (3, (2, x3)), (8, (0, x8))]) dJ30_getChars_54 rfl ev54.symm (by decide) rfl k) ?_
      refine hw_1 (fun k => x_iload dJ30_getChars_57 rfl k) ?_
      refine hw_1 (fun k => x_gets (tg := 2) (z := 152) dJ30_getChars_59 q6554 (by decide +kernel) k) ?_
      refine hw_1 (fun k => x_iload dJ30_getChars_62 rfl k) ?_
      replace h := ga_ck_some h; obtain ⟨hc64_0, h⟩ := h
      refine hw_1 (fun k => x_bald (v := D 152 v48) dJ30_getChars_64 (hkS (D := D) (show ga_K 152 = (1002, 100) from by decide +kernel) (by decide)) hc64_0.1 hc64_0.2 rfl k) ?_
      replace h := ga_ck_some h; obtain ⟨hc65_1, h⟩ := h
      replace h := ga_ck_some h; obtain ⟨hc65_2, h⟩ := h
      replace h := ga_ck_some h; obtain ⟨hc65_3, h⟩ := h
      replace h := ga_let_some h; obtain ⟨D65, eD65, h⟩ := h
      refine hw_set eD65 (Int.le_trans (by decide) hc65_2) hc65_3.1 (fun k => x_bast dJ30_getChars_65 (hk_p hc65_1) hc65_2 hc65_3.1 hc65_3.2.1 hc65_3.2.2 k) ?_
      have hP65 : h_P D65 := hP.set eD65 hc65_2 hc65_3.1 (hPn (hk_p hc65_1) rfl)
      have hE65 : h_E D D65 := h_E_set eD65 hc65_3.1
      refine hw_1 (fun k => x_aload_n dJ30_getChars_66 rfl k) ?_
      replace h := ga_let_some h; obtain ⟨v67, ev67, h⟩ := h
      refine hw_1 (fun k => x_iinc (ls' := [(7, (0, v67)), (0, (1, v37)), (6, (0, v48)), (4, (1, v37)), (3, (2, x3)), (8, (0, x8))]) dJ30_getChars_67 rfl ev67.symm (by decide) rfl k) ?_
      refine hw_1 (fun k => x_iload dJ30_getChars_70 rfl k) ?_
      refine hw_1 (fun k => x_gets (tg := 2) (z := 153) dJ30_getChars_72 q6555 (by decide +kernel) k) ?_
      refine hw_1 (fun k => x_iload dJ30_getChars_75 rfl k) ?_
      replace h := ga_ck_some h; obtain ⟨hc77_4, h⟩ := h
      refine hw_1 (fun k => x_bald (v := D65 153 v48) dJ30_getChars_77 (hkS (D := D65) (show ga_K 153 = (1002, 100) from by decide +kernel) (by decide)) hc77_4.1 hc77_4.2 rfl k) ?_
      replace h := ga_ck_some h; obtain ⟨hc78_5, h⟩ := h
      replace h := ga_let_some h; obtain ⟨D78, eD78, h⟩ := h
      refine hw_set eD78 (Int.le_trans (by decide) hc65_2) hc78_5.1 (fun k => x_bast dJ30_getChars_78 (h_kx hE65 (hk_p hc65_1) (by decide)) hc65_2 hc78_5.1 hc78_5.2.1 hc78_5.2.2 k) ?_
      have hP78 : h_P D78 := hP65.set eD78 hc65_2 hc78_5.1 (hPn (h_kx hE65 (hk_p hc65_1) (by decide)) rfl)
      have hE78 : h_E D65 D78 := h_E_set eD78 hc78_5.1
      refine hw_1 (fun k => x_goto (tgt := 24) dJ30_getChars_79 (by decide) k) ?_
      refine hw_locs [1, 4, 0, 5] (ls' := [(0, (1, v37)), (3, (2, x3)), (7, (0, v67)), (8, (0, x8))]) rfl ?_
      exact ih _ _ _ _ _ hP78 h
theorem h_J30_getChars_l86_ok {G : aw_G} {M0 : aw_M} {D' : ga_D} {Q : Option aw_V → aw_M → Prop} {r : Int} (hq : Q (some (0, r)) (hM D')) {k143 : Int → Int → Int → Int → ga_D → ga_S} (hk143 : ∀ (x3 x7 x8 x10 : Int) (D : ga_D), h_P D → k143 x3 x7 x8 x10 D = some (r, D') → aw_HW G "java/lang/Long" cJ30_getChars (some (.int)) 11 0 false M0 Q aw_no D' (hn D') (hsl D') 143 [(3, (2, x3)), (7, (0, x7)), (8, (0, x8)), (10, (0, x10))] [] D) : ∀ {n : Nat} {x3 x7 x8 x10 : Int} {D : ga_D}, h_P D → h_J30_getChars_l86 n x3 x7 x8 x10 D k143 = some (r, D') → aw_HW G "java/lang/Long" cJ30_getChars (some (.int)) 11 0 false M0 Q aw_no D' (hn D') (hsl D') 86 [(3, (2, x3)), (7, (0, x7)), (8, (0, x8)), (10, (0, x10))] [] D := by
  intro n
  induction n with
  | zero => intro x3 x7 x8 x10 D hP h; exact absurd (h : (none : ga_S) = some (r, D')) (by intro h; cases h)
  | succ n ih =>
    intro x3 x7 x8 x10 D hP h
    have ih : ∀ (x3 x7 x8 x10 : Int) (D : ga_D), h_P D → h_J30_getChars_l86 n x3 x7 x8 x10 D k143 = some (r, D') → aw_HW G "java/lang/Long" cJ30_getChars (some (.int)) 11 0 false M0 Q aw_no D' (hn D') (hsl D') 86 [(3, (2, x3)), (7, (0, x7)), (8, (0, x8)), (10, (0, x10))] [] D := fun x3 x7 x8 x10 D hP h => ih hP h
    replace h : (if (-100) < x10 then (k143 x3 x7 x8 x10 D) else (ga_let (aw_w32 (Int.tdiv x10 100)) (fun v98 => ga_let (aw_w32 ((aw_w32 (v98 * 100)) - x10)) (fun v108 => ga_let (aw_w32 (x7 + (-1))) (fun v115 => ga_ck (0 ≤ v108 ∧ v108 < 100) (ga_ck ((hk D x3).1 = 1002) (ga_ck (4096 ≤ x3) (ga_ck (0 ≤ v115 ∧ v115 < (hk D x3).2 ∧ (-128) ≤ D 152 v108 ∧ D 152 v108 < 128) (ga_let (ga_set D x3 v115 (D 152 v108)) (fun D126 => ga_let (aw_w32 (v115 + (-1))) (fun v128 => ga_ck (0 ≤ v108 ∧ v108 < 100) (ga_ck (0 ≤ v128 ∧ v128 < (hk D x3).2 ∧ (-128) ≤ D126 153 v108 ∧ D126 153 v108 < 128) (ga_let (ga_set D126 x3 v128 (D126 153 v108)) (fun D139 => h_J30_getChars_l86 n x3 v128 x8 v98 D139 k143))))))))))))) : ga_S) = some (r, D') := h
    refine hw_1 (fun k => x_iload dJ30_getChars_86 rfl k) ?_
    refine hw_1 (fun k => x_bipush dJ30_getChars_88 (by decide) k) ?_
    by_cases c90 : (-100) < x10
    · rw [if_pos c90] at h
      refine hw_1 (fun k => x_icmp_gt (tgt := 143) dJ30_getChars_90 (by decide) (fun _ => k) (fun z => absurd c90 z)) ?_
      exact hk143 _ _ _ _ _ hP h
    · rw [if_neg c90] at h
      refine hw_1 (fun k => x_icmp_gt (tgt := 143) dJ30_getChars_90 (by decide) (fun z => absurd z c90) (fun _ => k)) ?_
      refine hw_1 (fun k => x_iload dJ30_getChars_93 rfl k) ?_
      refine hw_1 (fun k => x_bipush dJ30_getChars_95 (by decide) k) ?_
      refine hw_1 (fun k => x_idiv dJ30_getChars_97 (by decide) rfl k) ?_
      replace h := ga_let_some h; obtain ⟨v98, ev98, h⟩ := h
      refine hw_nm ev98 ?_
      refine hw_1 (fun k => x_istore (ls' := [(9, (0, v98)), (3, (2, x3)), (7, (0, x7)), (8, (0, x8)), (10, (0, x10))]) dJ30_getChars_98 (by decide) rfl k) ?_
      refine hw_1 (fun k => x_iload dJ30_getChars_100 rfl k) ?_
      refine hw_1 (fun k => x_bipush dJ30_getChars_102 (by decide) k) ?_
      refine hw_1 (fun k => x_imul dJ30_getChars_104 rfl k) ?_
      refine hw_1 (fun k => x_iload dJ30_getChars_105 rfl k) ?_
      refine hw_1 (fun k => x_isub dJ30_getChars_107 rfl k) ?_
      replace h := ga_let_some h; obtain ⟨v108, ev108, h⟩ := h
      refine hw_nm ev108 ?_
      refine hw_1 (fun k => x_istore (ls' := [(6, (0, v108)), (9, (0, v98)), (3, (2, x3)), (7, (0, x7)), (8, (0, x8)), (10, (0, x10))]) dJ30_getChars_108 (by decide) rfl k) ?_
      refine hw_1 (fun k => x_iload dJ30_getChars_110 rfl k) ?_
      refine hw_1 (fun k => x_istore (ls' := [(10, (0, v98)), (6, (0, v108)), (9, (0, v98)), (3, (2, x3)), (7, (0, x7)), (8, (0, x8))]) dJ30_getChars_112 (by decide) rfl k) ?_
      refine hw_1 (fun k => x_aload_n dJ30_getChars_114 rfl k) ?_
      replace h := ga_let_some h; obtain ⟨v115, ev115, h⟩ := h
      refine hw_1 (fun k => x_iinc (ls' := [(7, (0, v115)), (10, (0, v98)), (6, (0, v108)), (9, (0, v98)), (3, (2, x3)), (8, (0, x8))]) dJ30_getChars_115 rfl ev115.symm (by decide) rfl k) ?_
      refine hw_1 (fun k => x_iload dJ30_getChars_118 rfl k) ?_
      refine hw_1 (fun k => x_gets (tg := 2) (z := 152) dJ30_getChars_120 q6554 (by decide +kernel) k) ?_
      refine hw_1 (fun k => x_iload dJ30_getChars_123 rfl k) ?_
      replace h := ga_ck_some h; obtain ⟨hc125_0, h⟩ := h
      refine hw_1 (fun k => x_bald (v := D 152 v108) dJ30_getChars_125 (hkS (D := D) (show ga_K 152 = (1002, 100) from by decide +kernel) (by decide)) hc125_0.1 hc125_0.2 rfl k) ?_
      replace h := ga_ck_some h; obtain ⟨hc126_1, h⟩ := h
      replace h := ga_ck_some h; obtain ⟨hc126_2, h⟩ := h
      replace h := ga_ck_some h; obtain ⟨hc126_3, h⟩ := h
      replace h := ga_let_some h; obtain ⟨D126, eD126, h⟩ := h
      refine hw_set eD126 (Int.le_trans (by decide) hc126_2) hc126_3.1 (fun k => x_bast dJ30_getChars_126 (hk_p hc126_1) hc126_2 hc126_3.1 hc126_3.2.1 hc126_3.2.2 k) ?_
      have hP126 : h_P D126 := hP.set eD126 hc126_2 hc126_3.1 (hPn (hk_p hc126_1) rfl)
      have hE126 : h_E D D126 := h_E_set eD126 hc126_3.1
      refine hw_1 (fun k => x_aload_n dJ30_getChars_127 rfl k) ?_
      replace h := ga_let_some h; obtain ⟨v128, ev128, h⟩ := h
      refine hw_1 (fun k => x_iinc (ls' := [(7, (0, v128)), (10, (0, v98)), (6, (0, v108)), (9, (0, v98)), (3, (2, x3)), (8, (0, x8))]) dJ30_getChars_128 rfl ev128.symm (by decide) rfl k) ?_
      refine hw_1 (fun k => x_iload dJ30_getChars_131 rfl k) ?_
      refine hw_1 (fun k => x_gets (tg := 2) (z := 153) dJ30_getChars_133 q6555 (by decide +kernel) k) ?_
      refine hw_1 (fun k => x_iload dJ30_getChars_136 rfl k) ?_
      replace h := ga_ck_some h; obtain ⟨hc138_4, h⟩ := h
      refine hw_1 (fun k => x_bald (v := D126 153 v108) dJ30_getChars_138 (hkS (D := D126) (show ga_K 153 = (1002, 100) from by decide +kernel) (by decide)) hc138_4.1 hc138_4.2 rfl k) ?_
      replace h := ga_ck_some h; obtain ⟨hc139_5, h⟩ := h
      replace h := ga_let_some h; obtain ⟨D139, eD139, h⟩ := h
      refine hw_set eD139 (Int.le_trans (by decide) hc126_2) hc139_5.1 (fun k => x_bast dJ30_getChars_139 (h_kx hE126 (hk_p hc126_1) (by decide)) hc126_2 hc139_5.1 hc139_5.2.1 hc139_5.2.2 k) ?_
      have hP139 : h_P D139 := hP126.set eD139 hc126_2 hc139_5.1 (hPn (h_kx hE126 (hk_p hc126_1) (by decide)) rfl)
      have hE139 : h_E D126 D139 := h_E_set eD139 hc139_5.1
      refine hw_1 (fun k => x_goto (tgt := 86) dJ30_getChars_140 (by decide) k) ?_
      refine hw_locs [4, 0, 5, 1] (ls' := [(3, (2, x3)), (7, (0, v128)), (8, (0, x8)), (10, (0, v98))]) rfl ?_
      exact ih _ _ _ _ _ hP139 h
theorem h_J30_getChars_j178_ok {G : aw_G} {M0 : aw_M} {D' : ga_D} {Q : Option aw_V → aw_M → Prop} {r : Int} (hq : Q (some (0, r)) (hM D')) {x3 x7 x8 : Int} {D : ga_D} (hP : h_P D) (h : h_J30_getChars_j178 x3 x7 x8 D = some (r, D')) : aw_HW G "java/lang/Long" cJ30_getChars (some (.int)) 11 0 false M0 Q aw_no D' (hn D') (hsl D') 178 [(3, (2, x3)), (7, (0, x7)), (8, (0, x8))] [] D := by
  unfold h_J30_getChars_j178 at h
  refine hw_1 (fun k => x_iload dJ30_getChars_178 rfl k) ?_
  by_cases c180 : x8 = 0
  · rw [if_pos c180] at h
    refine hw_1 (fun k => x_if_eq (tgt := 192) dJ30_getChars_180 (by decide) (fun _ => k) (fun z => absurd c180 z)) ?_
    refine hw_1 (fun k => x_iload dJ30_getChars_192 rfl k) ?_
    obtain ⟨rfl, rfl⟩ := ga_end h
    exact hw_ret hP (x_iret dJ30_getChars_194 rfl rfl trivial hq)
  · rw [if_neg c180] at h
    refine hw_1 (fun k => x_if_eq (tgt := 192) dJ30_getChars_180 (by decide) (fun z => absurd z c180) (fun _ => k)) ?_
    refine hw_1 (fun k => x_aload_n dJ30_getChars_183 rfl k) ?_
    replace h := ga_let_some h; obtain ⟨v184, ev184, h⟩ := h
    refine hw_1 (fun k => x_iinc (ls' := [(7, (0, v184)), (3, (2, x3)), (8, (0, x8))]) dJ30_getChars_184 rfl ev184.symm (by decide) rfl k) ?_
    refine hw_1 (fun k => x_iload dJ30_getChars_187 rfl k) ?_
    refine hw_1 (fun k => x_bipush dJ30_getChars_189 (by decide) k) ?_
    replace h := ga_ck_some h; obtain ⟨hc191_0, h⟩ := h
    replace h := ga_ck_some h; obtain ⟨hc191_1, h⟩ := h
    replace h := ga_ck_some h; obtain ⟨hc191_2, h⟩ := h
    replace h := ga_let_some h; obtain ⟨D191, eD191, h⟩ := h
    refine hw_set eD191 (Int.le_trans (by decide) hc191_1) hc191_2.1 (fun k => x_bast dJ30_getChars_191 (hk_p hc191_0) hc191_1 hc191_2.1 hc191_2.2 (by decide) k) ?_
    have hP191 : h_P D191 := hP.set eD191 hc191_1 hc191_2.1 (hPn (hk_p hc191_0) rfl)
    have hE191 : h_E D D191 := h_E_set eD191 hc191_2.1
    refine hw_1 (fun k => x_iload dJ30_getChars_192 rfl k) ?_
    obtain ⟨rfl, rfl⟩ := ga_end h
    exact hw_ret hP191 (x_iret dJ30_getChars_194 rfl rfl trivial hq)
theorem h_J30_getChars_j14_ok {G : aw_G} {M0 : aw_M} {D' : ga_D} {Q : Option aw_V → aw_M → Prop} {r : Int} (hq : Q (some (0, r)) (hM D')) {x0 x3 x7 s0 : Int} {D : ga_D} (hP : h_P D) (h : h_J30_getChars_j14 x0 x3 x7 s0 D = some (r, D')) : aw_HW G "java/lang/Long" cJ30_getChars (some (.int)) 11 0 false M0 Q aw_no D' (hn D') (hsl D') 14 [(0, (1, x0)), (3, (2, x3)), (7, (0, x7))] [(0, s0)] D := by
  unfold h_J30_getChars_j14 at h
  refine hw_1 (fun k => x_istore (ls' := [(8, (0, s0)), (0, (1, x0)), (3, (2, x3)), (7, (0, x7))]) dJ30_getChars_14 (by decide) rfl k) ?_
  refine hw_1 (fun k => x_iload dJ30_getChars_16 rfl k) ?_
  by_cases c18 : s0 ≠ 0
  · rw [if_pos c18] at h
    refine hw_1 (fun k => x_if_ne (tgt := 24) dJ30_getChars_18 (by decide) (fun _ => k) (fun z => absurd c18 z)) ?_
    refine hw_locs [1, 2, 3, 0] (ls' := [(0, (1, x0)), (3, (2, x3)), (7, (0, x7)), (8, (0, s0))]) rfl ?_
    refine h_J30_getChars_l24_ok hq (fun x0 x3 x7 x8 D82 hP h => ?_) hP h
    · refine hw_1 (fun k => x_lload_n dJ30_getChars_82 rfl k) ?_
      refine hw_1 (fun k => x_l2i dJ30_getChars_83 rfl k) ?_
      replace h := ga_let_some h; obtain ⟨v84, ev84, h⟩ := h
      refine hw_nm ev84 ?_
      refine hw_1 (fun k => x_istore (ls' := [(10, (0, v84)), (0, (1, x0)), (3, (2, x3)), (7, (0, x7)), (8, (0, x8))]) dJ30_getChars_84 (by decide) rfl k) ?_
      refine hw_locs [2, 3, 4, 0] (ls' := [(3, (2, x3)), (7, (0, x7)), (8, (0, x8)), (10, (0, v84))]) rfl ?_
      refine h_J30_getChars_l86_ok hq (fun x3 x7 x8 x10 D143 hP h => ?_) hP h
      · refine hw_1 (fun k => x_aload_n dJ30_getChars_143 rfl k) ?_
        replace h := ga_let_some h; obtain ⟨v144, ev144, h⟩ := h
        refine hw_1 (fun k => x_iinc (ls' := [(7, (0, v144)), (3, (2, x3)), (8, (0, x8)), (10, (0, x10))]) dJ30_getChars_144 rfl ev144.symm (by decide) rfl k) ?_
        refine hw_1 (fun k => x_iload dJ30_getChars_147 rfl k) ?_
        refine hw_1 (fun k => x_gets (tg := 2) (z := 152) dJ30_getChars_149 q6554 (by decide +kernel) k) ?_
        refine hw_1 (fun k => x_iload dJ30_getChars_152 rfl k) ?_
        refine hw_1 (fun k => x_ineg dJ30_getChars_154 rfl k) ?_
        replace h := ga_ck_some h; obtain ⟨hc155_0, h⟩ := h
        refine hw_1 (fun k => x_bald (v := D143 152 (aw_w32 (-x10))) dJ30_getChars_155 (hkS (D := D143) (show ga_K 152 = (1002, 100) from by decide +kernel) (by decide)) hc155_0.1 hc155_0.2 rfl k) ?_
        replace h := ga_ck_some h; obtain ⟨hc156_1, h⟩ := h
        replace h := ga_ck_some h; obtain ⟨hc156_2, h⟩ := h
        replace h := ga_ck_some h; obtain ⟨hc156_3, h⟩ := h
        replace h := ga_let_some h; obtain ⟨D156, eD156, h⟩ := h
        refine hw_set eD156 (Int.le_trans (by decide) hc156_2) hc156_3.1 (fun k => x_bast dJ30_getChars_156 (hk_p hc156_1) hc156_2 hc156_3.1 hc156_3.2.1 hc156_3.2.2 k) ?_
        have hP156 : h_P D156 := hP.set eD156 hc156_2 hc156_3.1 (hPn (hk_p hc156_1) rfl)
        have hE156 : h_E D143 D156 := h_E_set eD156 hc156_3.1
        refine hw_1 (fun k => x_iload dJ30_getChars_157 rfl k) ?_
        refine hw_1 (fun k => x_bipush dJ30_getChars_159 (by decide) k) ?_
        by_cases c161 : (-9) ≤ x10
        · rw [if_pos c161] at h
          refine hw_1 (fun k => x_icmp_ge (tgt := 178) dJ30_getChars_161 (by decide) (fun _ => k) (fun z => absurd c161 z)) ?_
          refine hw_locs [1, 0, 2] (ls' := [(3, (2, x3)), (7, (0, v144)), (8, (0, x8))]) rfl ?_
          refine h_J30_getChars_j178_ok hq hP156 h
        · rw [if_neg c161] at h
          refine hw_1 (fun k => x_icmp_ge (tgt := 178) dJ30_getChars_161 (by decide) (fun z => absurd z c161) (fun _ => k)) ?_
          refine hw_1 (fun k => x_aload_n dJ30_getChars_164 rfl k) ?_
          replace h := ga_let_some h; obtain ⟨v165, ev165, h⟩ := h
          refine hw_1 (fun k => x_iinc (ls' := [(7, (0, v165)), (3, (2, x3)), (8, (0, x8)), (10, (0, x10))]) dJ30_getChars_165 rfl ev165.symm (by decide) rfl k) ?_
          refine hw_1 (fun k => x_iload dJ30_getChars_168 rfl k) ?_
          refine hw_1 (fun k => x_gets (tg := 2) (z := 153) dJ30_getChars_170 q6555 (by decide +kernel) k) ?_
          refine hw_1 (fun k => x_iload dJ30_getChars_173 rfl k) ?_
          refine hw_1 (fun k => x_ineg dJ30_getChars_175 rfl k) ?_
          replace h := ga_ck_some h; obtain ⟨hc176_0, h⟩ := h
          refine hw_1 (fun k => x_bald (v := D156 153 (aw_w32 (-x10))) dJ30_getChars_176 (hkS (D := D156) (show ga_K 153 = (1002, 100) from by decide +kernel) (by decide)) hc176_0.1 hc176_0.2 rfl k) ?_
          replace h := ga_ck_some h; obtain ⟨hc177_1, h⟩ := h
          replace h := ga_let_some h; obtain ⟨D177, eD177, h⟩ := h
          refine hw_set eD177 (Int.le_trans (by decide) hc156_2) hc177_1.1 (fun k => x_bast dJ30_getChars_177 (h_kx hE156 (hk_p hc156_1) (by decide)) hc156_2 hc177_1.1 hc177_1.2.1 hc177_1.2.2 k) ?_
          have hP177 : h_P D177 := hP156.set eD177 hc156_2 hc177_1.1 (hPn (h_kx hE156 (hk_p hc156_1) (by decide)) rfl)
          have hE177 : h_E D156 D177 := h_E_set eD177 hc177_1.1
          refine hw_locs [1, 0, 2] (ls' := [(3, (2, x3)), (7, (0, v165)), (8, (0, x8))]) rfl ?_
          refine h_J30_getChars_j178_ok hq hP177 h
  · rw [if_neg c18] at h
    refine hw_1 (fun k => x_if_ne (tgt := 24) dJ30_getChars_18 (by decide) (fun z => absurd z c18) (fun _ => k)) ?_
    refine hw_1 (fun k => x_lload_n dJ30_getChars_21 rfl k) ?_
    refine hw_1 (fun k => x_lneg dJ30_getChars_22 rfl k) ?_
    replace h := ga_let_some h; obtain ⟨v23, ev23, h⟩ := h
    refine hw_nm ev23 ?_
    refine hw_1 (fun k => x_lstore_n (ls' := [(0, (1, v23)), (8, (0, s0)), (3, (2, x3)), (7, (0, x7))]) dJ30_getChars_23 (by decide) rfl k) ?_
    refine hw_locs [0, 2, 3, 1] (ls' := [(0, (1, v23)), (3, (2, x3)), (7, (0, x7)), (8, (0, s0))]) rfl ?_
    refine h_J30_getChars_l24_ok hq (fun x0 x3 x7 x8 D82 hP h => ?_) hP h
    · refine hw_1 (fun k => x_lload_n dJ30_getChars_82 rfl k) ?_
      refine hw_1 (fun k => x_l2i dJ30_getChars_83 rfl k) ?_
      replace h := ga_let_some h; obtain ⟨v84, ev84, h⟩ := h
      refine hw_nm ev84 ?_
      refine hw_1 (fun k => x_istore (ls' := [(10, (0, v84)), (0, (1, x0)), (3, (2, x3)), (7, (0, x7)), (8, (0, x8))]) dJ30_getChars_84 (by decide) rfl k) ?_
      refine hw_locs [2, 3, 4, 0] (ls' := [(3, (2, x3)), (7, (0, x7)), (8, (0, x8)), (10, (0, v84))]) rfl ?_
      refine h_J30_getChars_l86_ok hq (fun x3 x7 x8 x10 D143 hP h => ?_) hP h
      · refine hw_1 (fun k => x_aload_n dJ30_getChars_143 rfl k) ?_
        replace h := ga_let_some h; obtain ⟨v144, ev144, h⟩ := h
        refine hw_1 (fun k => x_iinc (ls' := [(7, (0, v144)), (3, (2, x3)), (8, (0, x8)), (10, (0, x10))]) dJ30_getChars_144 rfl ev144.symm (by decide) rfl k) ?_
        refine hw_1 (fun k => x_iload dJ30_getChars_147 rfl k) ?_
        refine hw_1 (fun k => x_gets (tg := 2) (z := 152) dJ30_getChars_149 q6554 (by decide +kernel) k) ?_
        refine hw_1 (fun k => x_iload dJ30_getChars_152 rfl k) ?_
        refine hw_1 (fun k => x_ineg dJ30_getChars_154 rfl k) ?_
        replace h := ga_ck_some h; obtain ⟨hc155_0, h⟩ := h
        refine hw_1 (fun k => x_bald (v := D143 152 (aw_w32 (-x10))) dJ30_getChars_155 (hkS (D := D143) (show ga_K 152 = (1002, 100) from by decide +kernel) (by decide)) hc155_0.1 hc155_0.2 rfl k) ?_
        replace h := ga_ck_some h; obtain ⟨hc156_1, h⟩ := h
        replace h := ga_ck_some h; obtain ⟨hc156_2, h⟩ := h
        replace h := ga_ck_some h; obtain ⟨hc156_3, h⟩ := h
        replace h := ga_let_some h; obtain ⟨D156, eD156, h⟩ := h
        refine hw_set eD156 (Int.le_trans (by decide) hc156_2) hc156_3.1 (fun k => x_bast dJ30_getChars_156 (hk_p hc156_1) hc156_2 hc156_3.1 hc156_3.2.1 hc156_3.2.2 k) ?_
        have hP156 : h_P D156 := hP.set eD156 hc156_2 hc156_3.1 (hPn (hk_p hc156_1) rfl)
        have hE156 : h_E D143 D156 := h_E_set eD156 hc156_3.1
        refine hw_1 (fun k => x_iload dJ30_getChars_157 rfl k) ?_
        refine hw_1 (fun k => x_bipush dJ30_getChars_159 (by decide) k) ?_
        by_cases c161 : (-9) ≤ x10
        · rw [if_pos c161] at h
          refine hw_1 (fun k => x_icmp_ge (tgt := 178) dJ30_getChars_161 (by decide) (fun _ => k) (fun z => absurd c161 z)) ?_
          refine hw_locs [1, 0, 2] (ls' := [(3, (2, x3)), (7, (0, v144)), (8, (0, x8))]) rfl ?_
          refine h_J30_getChars_j178_ok hq hP156 h
        · rw [if_neg c161] at h
          refine hw_1 (fun k => x_icmp_ge (tgt := 178) dJ30_getChars_161 (by decide) (fun z => absurd z c161) (fun _ => k)) ?_
          refine hw_1 (fun k => x_aload_n dJ30_getChars_164 rfl k) ?_
          replace h := ga_let_some h; obtain ⟨v165, ev165, h⟩ := h
          refine hw_1 (fun k => x_iinc (ls' := [(7, (0, v165)), (3, (2, x3)), (8, (0, x8)), (10, (0, x10))]) dJ30_getChars_165 rfl ev165.symm (by decide) rfl k) ?_
          refine hw_1 (fun k => x_iload dJ30_getChars_168 rfl k) ?_
          refine hw_1 (fun k => x_gets (tg := 2) (z := 153) dJ30_getChars_170 q6555 (by decide +kernel) k) ?_
          refine hw_1 (fun k => x_iload dJ30_getChars_173 rfl k) ?_
          refine hw_1 (fun k => x_ineg dJ30_getChars_175 rfl k) ?_
          replace h := ga_ck_some h; obtain ⟨hc176_0, h⟩ := h
          refine hw_1 (fun k => x_bald (v := D156 153 (aw_w32 (-x10))) dJ30_getChars_176 (hkS (D := D156) (show ga_K 153 = (1002, 100) from by decide +kernel) (by decide)) hc176_0.1 hc176_0.2 rfl k) ?_
          replace h := ga_ck_some h; obtain ⟨hc177_1, h⟩ := h
          replace h := ga_let_some h; obtain ⟨D177, eD177, h⟩ := h
          refine hw_set eD177 (Int.le_trans (by decide) hc156_2) hc177_1.1 (fun k => x_bast dJ30_getChars_177 (h_kx hE156 (hk_p hc156_1) (by decide)) hc156_2 hc177_1.1 hc177_1.2.1 hc177_1.2.2 k) ?_
          have hP177 : h_P D177 := hP156.set eD177 hc156_2 hc177_1.1 (hPn (h_kx hE156 (hk_p hc156_1) (by decide)) rfl)
          have hE177 : h_E D156 D177 := h_E_set eD177 hc177_1.1
          refine hw_locs [1, 0, 2] (ls' := [(3, (2, x3)), (7, (0, v165)), (8, (0, x8))]) rfl ?_
          refine h_J30_getChars_j178_ok hq hP177 h
theorem h_J30_getChars_ok {G : aw_G} {D D' : ga_D} {r : Int} {x0 x2 x3 : Int} (hP : h_P D) (h : h_J30_getChars x0 x2 x3 D = some (r, D')) : aw_HR yJ30_getChars cJ30_getChars 11 (some (.int)) 0 G [(1, x0), (0, x2), (2, x3)] D (some (0, r)) D' := by
  unfold h_J30_getChars at h
  refine hw_body (own := "java/lang/Long") (ini := false) (ls := [(0, (1, x0)), (2, (0, x2)), (3, (2, x3))]) rfl rfl (fun h => by cases h) (Nat.le_of_ble_eq_true rfl) rfl fun Q hq => ?_
  refine hw_1 (fun k => x_iload_n dJ30_getChars_0 rfl k) ?_
  refine hw_1 (fun k => x_istore (ls' := [(7, (0, x2)), (0, (1, x0)), (2, (0, x2)), (3, (2, x3))]) dJ30_getChars_1 (by decide) rfl k) ?_
  refine hw_1 (fun k => x_lload_n dJ30_getChars_3 rfl k) ?_
  refine hw_1 (fun k => x_lconst (v := 0) dJ30_getChars_4 rfl k) ?_
  refine hw_1 (fun k => x_lcmp dJ30_getChars_5 rfl k) ?_
  by_cases c6 : 0 ≤ x0
  · rw [if_pos c6] at h
    refine hw_1 (fun k => x_if_ge (tgt := 13) dJ30_getChars_6 (by decide) (fun _ => k) (fun z => absurd (cmi_ge.mpr c6) z)) ?_
    refine hw_1 (fun k => x_iconst dJ30_getChars_13 (by decide) k) ?_
    refine hw_locs [1, 3, 0] (ls' := [(0, (1, x0)), (3, (2, x3)), (7, (0, x2))]) rfl ?_
    refine h_J30_getChars_j14_ok hq hP h
  · rw [if_neg c6] at h
    refine hw_1 (fun k => x_if_ge (tgt := 13) dJ30_getChars_6 (by decide) (fun z => absurd (cmi_ge.mp z) c6) (fun _ => k)) ?_
    refine hw_1 (fun k => x_iconst dJ30_getChars_9 (by decide) k) ?_
    refine hw_1 (fun k => x_goto (tgt := 14) dJ30_getChars_10 (by decide) k) ?_
    refine hw_locs [1, 3, 0] (ls' := [(0, (1, x0)), (3, (2, x3)), (7, (0, x2))]) rfl ?_
    refine h_J30_getChars_j14_ok hq hP h
theorem h_J18_append_4_ok {G : aw_G} {D D' : ga_D} {r : Int} {x0 x1 : Int} (hP : h_P D) (h : h_J18_append_4 x0 x1 D = some (r, D')) : aw_HR yJ18_append_4 cJ18_append_4 5 (some (.object "java/lang/AbstractStringBuilder")) 5 G [(2, x0), (1, x1)] D (some (2, r)) D' := by
  unfold h_J18_append_4 at h
  refine hw_body (own := "java/lang/AbstractStringBuilder") (ini := false) (ls := [(0, (2, x0)), (1, (1, x1))]) rfl rfl (fun h => by cases h) (Nat.le_of_ble_eq_true rfl) rfl fun Q hq => ?_
  refine hw_1 (fun k => x_aload_n dJ18_append_4_0 rfl k) ?_
  replace h := ga_ck_some h; obtain ⟨hc1_0, h⟩ := h
  refine hw_1 (fun k => x_getf (v := D x0 3) dJ18_append_4_1 fl_J18_79 hc1_0 rfl k) ?_
  replace h := ga_let_some h; obtain ⟨v4, ev4, h⟩ := h
  refine hw_nm ev4 ?_
  refine hw_1 (fun k => x_istore_n (ls' := [(3, (0, v4)), (0, (2, x0)), (1, (1, x1))]) dJ18_append_4_4 (by decide) rfl k) ?_
  refine hw_1 (fun k => x_iload_n dJ18_append_4_5 rfl k) ?_
  refine hw_1 (fun k => x_lload_n dJ18_append_4_6 rfl k) ?_
  replace h := ga_bind_some h; obtain ⟨r7, D7, g7, h⟩ := h
  have hR7 := (h_J30_stringSize_ok (G := G) hP g7)
  obtain ⟨hP7, hE7, -⟩ := id hR7
  refine hw_call (rest := [(0, v4)]) hR7 (fun hc hk9 => x_callS (as := [(1, x1)]) (rest := [(0, v4)]) dJ18_append_4_7 hc (lw_S q6544 q6545 q485 q6546) (show _ ∧ _ ∧ _ = some 1 from by decide +kernel) (by decide) (by decide) rfl (Nat.le_of_ble_eq_true rfl) hk9 aw_nox) ?_
  refine hw_1 (fun k => x_iadd dJ18_append_4_10 rfl k) ?_
  replace h := ga_let_some h; obtain ⟨v11, ev11, h⟩ := h
  refine hw_nm ev11 ?_
  refine hw_1 (fun k => x_istore (ls' := [(4, (0, v11)), (3, (0, v4)), (0, (2, x0)), (1, (1, x1))]) dJ18_append_4_11 (by decide) rfl k) ?_
  refine hw_1 (fun k => x_aload_n dJ18_append_4_13 rfl k) ?_
  refine hw_1 (fun k => x_iload dJ18_append_4_14 rfl k) ?_
  replace h := ga_bind_some h; obtain ⟨r16, D16, g16, h⟩ := h
  have hR16 := (h_J18_ensureCapacityInternal_ok (G := G) hP7 g16)
  obtain ⟨hP16, hE16, -⟩ := id hR16
  refine hw_call (rest := []) hR16 (fun hc hk9 => x_callP (C := "java/lang/StringBuilder") (cN2 := 0) (as := [(0, v11)]) (rest := []) dJ18_append_4_16 hc q2664 q2661 q9591 q2662 q2624 q2682 rfl q2663 q469 (h_kx hE7 hc1_0 (by decide)) rfl rfl (show _ ∧ _ ∧ _ = some 1 from by decide +kernel) (by decide) (by decide) rfl (Nat.le_of_ble_eq_true rfl) hk9 aw_nox) ?_
  refine hw_1 (fun k => x_aload_n dJ18_append_4_19 rfl k) ?_
  replace h := ga_bind_some h; obtain ⟨r20, D20, g20, h⟩ := h
  have hR20 := (h_J18_isLatin1_ok (G := G) hP16 g20)
  obtain ⟨hP20, hE20, -⟩ := id hR20
  refine hw_call (rest := []) hR20 (fun hc hk9 => x_callU (C := "java/lang/StringBuilder") (owner := "java/lang/AbstractStringBuilder") (as := []) (rest := []) dJ18_append_4_20 hc q2683 q2679 q2681 (Or.inl ⟨_, _, _, q2683, q2680⟩) q2682 q2680 q469 (h_kx hE16 (h_kx hE7 hc1_0 (by decide)) (by decide)) rfl rfl (show _ ∧ _ ∧ _ = some 0 from by decide +kernel) (by decide) (by decide) rfl (Nat.le_of_ble_eq_true rfl) hk9 aw_nox) ?_
  by_cases c23 : r20 = 0
  · rw [if_pos c23] at h
    refine hw_1 (fun k => x_if_eq (tgt := 40) dJ18_append_4_23 (by decide) (fun _ => k) (fun z => absurd c23 z)) ?_
    refine hw_1 (fun k => x_lload_n dJ18_append_4_40 rfl k) ?_
    refine hw_1 (fun k => x_iload_n dJ18_append_4_41 rfl k) ?_
    refine hw_1 (fun k => x_iload dJ18_append_4_42 rfl k) ?_
    refine hw_1 (fun k => x_aload_n dJ18_append_4_44 rfl k) ?_
    refine hw_1 (fun k => x_getf (v := D20 x0 0) dJ18_append_4_45 fl_J18_15 (h_kx hE20 (h_kx hE16 (h_kx hE7 hc1_0 (by decide)) (by decide)) (by decide)) rfl k) ?_
    exact absurd h (by intro h; cases h)
  · rw [if_neg c23] at h
    refine hw_1 (fun k => x_if_eq (tgt := 40) dJ18_append_4_23 (by decide) (fun z => absurd z c23) (fun _ => k)) ?_
    refine hw_1 (fun k => x_lload_n dJ18_append_4_26 rfl k) ?_
    refine hw_1 (fun k => x_iload dJ18_append_4_27 rfl k) ?_
    refine hw_1 (fun k => x_aload_n dJ18_append_4_29 rfl k) ?_
    refine hw_1 (fun k => x_getf (v := D20 x0 0) dJ18_append_4_30 fl_J18_15 (h_kx hE20 (h_kx hE16 (h_kx hE7 hc1_0 (by decide)) (by decide)) (by decide)) rfl k) ?_
    replace h := ga_bind_some h; obtain ⟨r33, D33, g33, h⟩ := h
    have hR33 := (h_J30_getChars_ok (G := G) hP20 g33)
    obtain ⟨hP33, hE33, -⟩ := id hR33
    refine hw_call (rest := []) hR33 (fun hc hk9 => x_callS (as := [(1, x1), (0, v11), (2, D20 x0 0)]) (rest := []) dJ18_append_4_33 hc (lw_S q6549 q6550 q485 q6551) (show _ ∧ _ ∧ _ = some 3 from by decide +kernel) (by decide) (by decide) rfl (Nat.le_of_ble_eq_true rfl) hk9 aw_nox) ?_
    refine hw_1 (fun k => x_pop dJ18_append_4_36 rfl k) ?_
    refine hw_1 (fun k => x_goto (tgt := 52) dJ18_append_4_37 (by decide) k) ?_
    refine hw_1 (fun k => x_aload_n dJ18_append_4_52 rfl k) ?_
    refine hw_1 (fun k => x_iload dJ18_append_4_53 rfl k) ?_
    replace h := ga_let_some h; obtain ⟨D55, eD55, h⟩ := h
    refine hw_set eD55 (Int.le_trans (by decide) (hkge_68 (h_kx hE33 (h_kx hE20 (h_kx hE16 (h_kx hE7 hc1_0 (by decide)) (by decide)) (by decide)) (by decide)))) (by decide) (fun k => x_putf dJ18_append_4_55 fl_J18_79 rfl (h_kx hE33 (h_kx hE20 (h_kx hE16 (h_kx hE7 hc1_0 (by decide)) (by decide)) (by decide)) (by decide)) (hkge_68 (h_kx hE33 (h_kx hE20 (h_kx hE16 (h_kx hE7 hc1_0 (by decide)) (by decide)) (by decide)) (by decide))) trivial k) ?_
    have hP55 : h_P D55 := hP33.set eD55 (hkge_68 (h_kx hE33 (h_kx hE20 (h_kx hE16 (h_kx hE7 hc1_0 (by decide)) (by decide)) (by decide)) (by decide))) (by decide) (hPn (h_kx hE33 (h_kx hE20 (h_kx hE16 (h_kx hE7 hc1_0 (by decide)) (by decide)) (by decide)) (by decide)) rfl)
    have hE55 : h_E D33 D55 := h_E_set eD55 (by decide)
    refine hw_1 (fun k => x_aload_n dJ18_append_4_58 rfl k) ?_
    obtain ⟨rfl, rfl⟩ := ga_end h
    exact hw_ret hP55 (x_aret dJ18_append_4_59 rfl (by first | exact Or.inl ⟨_, rfl⟩ | exact Or.inr ⟨_, rfl⟩) hq)
theorem h_J19_append_ok {G : aw_G} {D D' : ga_D} {r : Int} {x0 x1 : Int} (hP : h_P D) (h : h_J19_append x0 x1 D = some (r, D')) : aw_HR yJ19_append cJ19_append 2 (some (.object "java/lang/StringBuilder")) 6 G [(2, x0), (0, x1)] D (some (2, r)) D' := by
  unfold h_J19_append at h
  refine hw_body (own := "java/lang/StringBuilder") (ini := false) (ls := [(0, (2, x0)), (1, (0, x1))]) rfl rfl (fun h => by cases h) (Nat.le_of_ble_eq_true rfl) rfl fun Q hq => ?_
  refine hw_1 (fun k => x_aload_n dJ19_append_0 rfl k) ?_
  refine hw_1 (fun k => x_iload_n dJ19_append_1 rfl k) ?_
  replace h := ga_ck_some h; obtain ⟨hc2_0, h⟩ := h
  replace h := ga_bind_some h; obtain ⟨r2, D2, g2, h⟩ := h
  have hR2 := (h_J18_append_ok (G := G) hP g2)
  obtain ⟨hP2, hE2, -⟩ := id hR2
  refine hw_call (rest := []) hR2 (fun hc hk9 => x_callSU (as := [(0, x1)]) (rest := []) dJ19_append_2 hc q2660 q2658 q9590 q2653 q2659 q469 hc2_0 rfl (show _ ∧ _ = some 1 from by decide +kernel) (by decide) (by decide) rfl (Nat.le_of_ble_eq_true rfl) hk9 aw_nox) ?_
  refine hw_1 (fun k => x_pop dJ19_append_5 rfl k) ?_
  refine hw_1 (fun k => x_aload_n dJ19_append_6 rfl k) ?_
  obtain ⟨rfl, rfl⟩ := ga_end h
  exact hw_ret hP2 (x_aret dJ19_append_7 rfl (by first | exact Or.inl ⟨_, rfl⟩ | exact Or.inr ⟨_, rfl⟩) hq)
theorem h_J19_append_4_ok {G : aw_G} {D D' : ga_D} {r : Int} {x0 x1 : Int} (hP : h_P D) (h : h_J19_append_4 x0 x1 D = some (r, D')) : aw_HR yJ19_append_4 cJ19_append_4 3 (some (.object "java/lang/StringBuilder")) 6 G [(2, x0), (1, x1)] D (some (2, r)) D' := by
  unfold h_J19_append_4 at h
  refine hw_body (own := "java/lang/StringBuilder") (ini := false) (ls := [(0, (2, x0)), (1, (1, x1))]) rfl rfl (fun h => by cases h) (Nat.le_of_ble_eq_true rfl) rfl fun Q hq => ?_
  refine hw_1 (fun k => x_aload_n dJ19_append_4_0 rfl k) ?_
  refine hw_1 (fun k => x_lload_n dJ19_append_4_1 rfl k) ?_
  replace h := ga_ck_some h; obtain ⟨hc2_0, h⟩ := h
  replace h := ga_bind_some h; obtain ⟨r2, D2, g2, h⟩ := h
  have hR2 := (h_J18_append_4_ok (G := G) hP g2)
  obtain ⟨hP2, hE2, -⟩ := id hR2
  refine hw_call (rest := []) hR2 (fun hc hk9 => x_callSU (as := [(1, x1)]) (rest := []) dJ19_append_4_2 hc q6543 q6541 q9603 q2653 q6542 q469 hc2_0 rfl (show _ ∧ _ = some 1 from by decide +kernel) (by decide) (by decide) rfl (Nat.le_of_ble_eq_true rfl) hk9 aw_nox) ?_
  refine hw_1 (fun k => x_pop dJ19_append_4_5 rfl k) ?_
  refine hw_1 (fun k => x_aload_n dJ19_append_4_6 rfl k) ?_
  obtain ⟨rfl, rfl⟩ := ga_end h
  exact hw_ret hP2 (x_aret dJ19_append_4_7 rfl (by first | exact Or.inl ⟨_, rfl⟩ | exact Or.inr ⟨_, rfl⟩) hq)
theorem h_J2_init_ok {G : aw_G} {D D' : ga_D} {r : Int} {x0 : Int} (hx0 : 0 < x0) (hP : h_P D) (h : h_J2_init x0 D = some (r, D')) : aw_HR yJ2_init cJ2_init 1 none 3 G [(2, x0)] D none D' := by
  unfold h_J2_init at h
  refine hw_body (own := "java/util/ArrayList") (ini := true) (ls := [(0, (2, x0))]) rfl rfl (fun _ => rfl) (Nat.le_of_ble_eq_true rfl) rfl fun Q hq => ?_
  refine hw_1 (fun k => x_aload_n dJ2_init_0 rfl k) ?_
  replace h := ga_bind_some h; obtain ⟨r1, D1, g1, h⟩ := h
  have hR1 := (h_J1_init_ok (G := G) hx0 hP g1)
  obtain ⟨hP1, hE1, -⟩ := id hR1
  refine hw_call (rest := []) hR1 (fun hc hk9 => x_callI0 (as := []) (rest := []) dJ2_init_1 hc (lw_meth q599) q400 q597 q598 hx0 rfl (show _ ∧ _ ∧ _ = some 0 from by decide +kernel) (by decide) (by decide) rfl (Nat.le_of_ble_eq_true rfl) hk9 aw_nox) ?_
  refine hw_1 (fun k => x_aload_n dJ2_init_4 rfl k) ?_
  refine hw_1 (fun k => x_gets (tg := 2) (z := 157) dJ2_init_5 q604 (by decide +kernel) k) ?_
  replace h := ga_ck_some h; obtain ⟨hc8_0, h⟩ := h
  replace h := ga_let_some h; obtain ⟨D8, eD8, h⟩ := h
  refine hw_set eD8 (Int.le_trans (by decide) (hkge_60 hc8_0)) (by decide) (fun k => x_putf dJ2_init_8 fl_J2_9 rfl hc8_0 (hkge_60 hc8_0) trivial k) ?_
  have hP8 : h_P D8 := hP1.set eD8 (hkge_60 hc8_0) (by decide) (hPn hc8_0 rfl)
  have hE8 : h_E D1 D8 := h_E_set eD8 (by decide)
  obtain ⟨rfl, rfl⟩ := ga_end h
  exact hw_ret hP8 (x_vret dJ2_init_11 rfl hq)
theorem h_J2_indexOfRange_l42_ok {G : aw_G} {M0 : aw_M} {D' : ga_D} {Q : Option aw_V → aw_M → Prop} {r : Int} (hq : Q (some (0, r)) (hM D')) {k60 : Int → ga_D → ga_S} {k69 : ga_D → ga_S} (hk60 : ∀ (x5 : Int) (D : ga_D), h_P D → k60 x5 D = some (r, D') → aw_HW G "java/util/ArrayList" cJ2_indexOfRange (some (.int)) 6 2 false M0 Q aw_no D' (hn D') (hsl D') 60 [(5, (0, x5))] [] D) (hk69 : ∀ (D : ga_D), h_P D → k69 D = some (r, D') → aw_HW G "java/util/ArrayList" cJ2_indexOfRange (some (.int)) 6 2 false M0 Q aw_no D' (hn D') (hsl D') 69 [] [] D) : ∀ {n : Nat} {x1 x3 x4 x5 : Int} {D : ga_D}, h_P D → h_J2_indexOfRange_l42 n x1 x3 x4 x5 D k60 k69 = some (r, D') → aw_HW G "java/util/ArrayList" cJ2_indexOfRange (some (.int)) 6 2 false M0 Q aw_no D' (hn D') (hsl D') 42 [(1, (2, x1)), (3, (0, x3)), (4, (2, x4)), (5, (0, x5))] [] D := by
  intro n
  induction n with
  | zero => intro x1 x3 x4 x5 D hP h; exact absurd (h : (none : ga_S) = some (r, D')) (by intro h; cases h)
  | succ n ih =>
    intro x1 x3 x4 x5 D hP h
    have ih : ∀ (x1 x3 x4 x5 : Int) (D : ga_D), h_P D → h_J2_indexOfRange_l42 n x1 x3 x4 x5 D k60 k69 = some (r, D') → aw_HW G "java/util/ArrayList" cJ2_indexOfRange (some (.int)) 6 2 false M0 Q aw_no D' (hn D') (hsl D') 42 [(1, (2, x1)), (3, (0, x3)), (4, (2, x4)), (5, (0, x5))] [] D := fun x1 x3 x4 x5 D hP h => ih hP h
    replace h : (if x3 ≤ x5 then (k69 D) else (ga_ck ((hk D x4).1 = 1017) (ga_ck (0 ≤ x5 ∧ x5 < (hk D x4).2) (ga_bind (if hk D x1 = (0, 0) then (none) else if hk D x1 = (1, 0) then (none) else if hk D x1 = (2, 0) then (none) else if hk D x1 = (3, 0) then (none) else if hk D x1 = (4, 0) then (none) else if hk D x1 = (5, 0) then (none) else if hk D x1 = (6, 0) then (none) else if hk D x1 = (7, 0) then (none) else if hk D x1 = (8, 0) then (none) else if hk D x1 = (9, 0) then (none) else if hk D x1 = (10, 0) then (none) else if hk D x1 = (11, 0) then (none) else if hk D x1 = (12, 0) then (none) else if hk D x1 = (13, 0) then (none) else if hk D x1 = (14, 0) then (none) else if hk D x1 = (15, 0) then (none) else if hk D x1 = (16, 0) then (none) else if hk D x1 = (17, 0) then (none) else if hk D x1 = (18, 0) then (none) else if hk D x1 = (19, 0) then (none) else if hk D x1 = (20, 0) then (none) else if hk D x1 = (21, 0) then (none) else if hk D x1 = (22, 0) then (none) else if hk D x1 = (23, 0) then (none) else if hk D x1 = (24, 0) then (none) else if hk D x1 = (25, 0) then (none) else if hk D x1 = (26, 0) then (none) else if hk D x1 = (27, 0) then (none) else if hk D x1 = (28, 0) then (none) else if hk D x1 = (29, 0) then (none) else if hk D x1 = (30, 0) then (none) else if hk D x1 = (31, 0) then (none) else if hk D x1 = (32, 0) then (none) else if hk D x1 = (33, 0) then (none) else if hk D x1 = (34, 0) then (none) else if hk D x1 = (35, 0) then (none) else if hk D x1 = (36, 0) then (none) else if hk D x1 = (37, 0) then (none) else if hk D x1 = (38, 0) then (none) else if hk D x1 = (39, 0) then (none) else if hk D x1 = (40, 0) then (none) else if hk D x1 = (41, 0) then (none) else if hk D x1 = (42, 0) then (none) else if hk D x1 = (43, 0) then (none) else if hk D x1 = (44, 0) then (none) else if hk D x1 = (45, 0) then (none) else if hk D x1 = (46, 0) then (none) else if hk D x1 = (47, 0) then (none) else if hk D x1 = (48, 0) then (none) else if hk D x1 = (49, 0) then (none) else if hk D x1 = (50, 0) then (none) else if hk D x1 = (51, 0) then (none) else if hk D x1 = (52, 0) then (none) else if hk D x1 = (53, 0) then (none) else if hk D x1 = (54, 0) then (none) else if hk D x1 = (55, 0) then (none) else if hk D x1 = (56, 0) then (none) else if hk D x1 = (57, 0) then (none) else if hk D x1 = (58, 0) then (none) else if hk D x1 = (59, 0) then (none) else if hk D x1 = (66, 0) then (none) else if hk D x1 = (67, 0) then (none) else if hk D x1 = (68, 0) then (none) else if hk D x1 = (69, 0) then (h_J20_equals x1 (D x4 x5) D) else if hk D x1 = (70, 0) then (h_J25_equals x1 (D x4 x5) D) else if hk D x1 = (72, 0) then (none) else if hk D x1 = (73, 0) then (h_J30_equals x1 (D x4 x5) D) else none) (fun r54 D54 => if r54 = 0 then (ga_let (aw_w32 (x5 + 1)) (fun v63 => h_J2_indexOfRange_l42 n x1 x3 x4 v63 D54 k60 k69)) else (k60 x5 D54))))) : ga_S) = some (r, D') := h
    refine hw_1 (fun k => x_iload dJ2_indexOfRange_42 rfl k) ?_
    refine hw_1 (fun k => x_iload_n dJ2_indexOfRange_44 rfl k) ?_
    by_cases c45 : x3 ≤ x5
    · rw [if_pos c45] at h
      refine hw_1 (fun k => x_icmp_ge (tgt := 69) dJ2_indexOfRange_45 (by decide) (fun _ => k) (fun z => absurd c45 z)) ?_
      refine hw_locs [] (ls' := []) rfl ?_
      exact hk69 _ hP h
    · rw [if_neg c45] at h
      refine hw_1 (fun k => x_icmp_ge (tgt := 69) dJ2_indexOfRange_45 (by decide) (fun z => absurd z c45) (fun _ => k)) ?_
      refine hw_1 (fun k => x_aload_n dJ2_indexOfRange_48 rfl k) ?_
      refine hw_1 (fun k => x_aload dJ2_indexOfRange_49 rfl k) ?_
      refine hw_1 (fun k => x_iload dJ2_indexOfRange_51 rfl k) ?_
      replace h := ga_ck_some h; obtain ⟨hc53_0, h⟩ := h
      replace h := ga_ck_some h; obtain ⟨hc53_1, h⟩ := h
      refine hw_1 (fun k => x_aald (t := 17) (v := D x4 x5) dJ2_indexOfRange_53 (hk_p hc53_0) rfl rfl hc53_1.1 hc53_1.2 rfl k) ?_
      replace h := ga_bind_some h; obtain ⟨r54, D54, g54, h⟩ := h
      have hS54 : h_P D54 ∧ h_E D D54 ∧ ∃ mc ms : Nat, hn D + mc = hn D54 ∧ hsl D + ms = hsl D54 ∧ ∀ {c sl : Nat}, aw_W G "java/util/ArrayList" cJ2_indexOfRange (some (.int)) 6 2 false M0 Q aw_no c sl 57 [(1, (2, x1)), (3, (0, x3)), (4, (2, x4)), (5, (0, x5))] [(0, r54)] (hM D54) → aw_W G "java/util/ArrayList" cJ2_indexOfRange (some (.int)) 6 2 false M0 Q aw_no (c + mc) (sl + ms) 54 [(1, (2, x1)), (3, (0, x3)), (4, (2, x4)), (5, (0, x5))] [(2, D x4 x5), (2, x1)] (hM D) := by
        by_cases w54_0 : hk D x1 = (0, 0)
        · rw [if_pos w54_0] at g54
          exact absurd g54 (by intro h; cases h)
        rw [if_neg w54_0] at g54
        by_cases w54_1 : hk D x1 = (1, 0)
        · rw [if_pos w54_1] at g54
          exact absurd g54 (by intro h; cases h)
        rw [if_neg w54_1] at g54
        by_cases w54_2 : hk D x1 = (2, 0)
        · rw [if_pos w54_2] at g54
          exact absurd g54 (by intro h; cases h)
        rw [if_neg w54_2] at g54
        by_cases w54_3 : hk D x1 = (3, 0)
        · rw [if_pos w54_3] at g54
          exact absurd g54 (by intro h; cases h)
        rw [if_neg w54_3] at g54
        by_cases w54_4 : hk D x1 = (4, 0)
        · rw [if_pos w54_4] at g54
          exact absurd g54 (by intro h; cases h)
        rw [if_neg w54_4] at g54
        by_cases w54_5 : hk D x1 = (5, 0)
        · rw [if_pos w54_5] at g54
          exact absurd g54 (by intro h; cases h)
        rw [if_neg w54_5] at g54
        by_cases w54_6 : hk D x1 = (6, 0)
        · rw [if_pos w54_6] at g54
          exact absurd g54 (by intro h; cases h)
        rw [if_neg w54_6] at g54
        by_cases w54_7 : hk D x1 = (7, 0)
        · rw [if_pos w54_7] at g54
          exact absurd g54 (by intro h; cases h)
        rw [if_neg w54_7] at g54
        by_cases w54_8 : hk D x1 = (8, 0)
        · rw [if_pos w54_8] at g54
          exact absurd g54 (by intro h; cases h)
        rw [if_neg w54_8] at g54
        by_cases w54_9 : hk D x1 = (9, 0)
        · rw [if_pos w54_9] at g54
          exact absurd g54 (by intro h; cases h)
        rw [if_neg w54_9] at g54
        by_cases w54_10 : hk D x1 = (10, 0)
        · rw [if_pos w54_10] at g54
          exact absurd g54 (by intro h; cases h)
        rw [if_neg w54_10] at g54
        by_cases w54_11 : hk D x1 = (11, 0)
        · rw [if_pos w54_11] at g54
          exact absurd g54 (by intro h; cases h)
        rw [if_neg w54_11] at g54
        by_cases w54_12 : hk D x1 = (12, 0)
        · rw [if_pos w54_12] at g54
          exact absurd g54 (by intro h; cases h)
        rw [if_neg w54_12] at g54
        by_cases w54_13 : hk D x1 = (13, 0)
        · rw [if_pos w54_13] at g54
          exact absurd g54 (by intro h; cases h)
        rw [if_neg w54_13] at g54
        by_cases w54_14 : hk D x1 = (14, 0)
        · rw [if_pos w54_14] at g54
          exact absurd g54 (by intro h; cases h)
        rw [if_neg w54_14] at g54
        by_cases w54_15 : hk D x1 = (15, 0)
        · rw [if_pos w54_15] at g54
          exact absurd g54 (by intro h; cases h)
        rw [if_neg w54_15] at g54
        by_cases w54_16 : hk D x1 = (16, 0)
        · rw [if_pos w54_16] at g54
          exact absurd g54 (by intro h; cases h)
        rw [if_neg w54_16] at g54
        by_cases w54_17 : hk D x1 = (17, 0)
        · rw [if_pos w54_17] at g54
          exact absurd g54 (by intro h; cases h)
        rw [if_neg w54_17] at g54
        by_cases w54_18 : hk D x1 = (18, 0)
        · rw [if_pos w54_18] at g54
          exact absurd g54 (by intro h; cases h)
        rw [if_neg w54_18] at g54
        by_cases w54_19 : hk D x1 = (19, 0)
        · rw [if_pos w54_19] at g54
          exact absurd g54 (by intro h; cases h)
        rw [if_neg w54_19] at g54
        by_cases w54_20 : hk D x1 = (20, 0)
        · rw [if_pos w54_20] at g54
          exact absurd g54 (by intro h; cases h)
        rw [if_neg w54_20] at g54
        by_cases w54_21 : hk D x1 = (21, 0)
        · rw [if_pos w54_21] at g54
          exact absurd g54 (by intro h; cases h)
        rw [if_neg w54_21] at g54
        by_cases w54_22 : hk D x1 = (22, 0)
        · rw [if_pos w54_22] at g54
          exact absurd g54 (by intro h; cases h)
        rw [if_neg w54_22] at g54
        by_cases w54_23 : hk D x1 = (23, 0)
        · rw [if_pos w54_23] at g54
          exact absurd g54 (by intro h; cases h)
        rw [if_neg w54_23] at g54
        by_cases w54_24 : hk D x1 = (24, 0)
        · rw [if_pos w54_24] at g54
          exact absurd g54 (by intro h; cases h)
        rw [if_neg w54_24] at g54
        by_cases w54_25 : hk D x1 = (25, 0)
        · rw [if_pos w54_25] at g54
          exact absurd g54 (by intro h; cases h)
        rw [if_neg w54_25] at g54
        by_cases w54_26 : hk D x1 = (26, 0)
        · rw [if_pos w54_26] at g54
          exact absurd g54 (by intro h; cases h)
        rw [if_neg w54_26] at g54
        by_cases w54_27 : hk D x1 = (27, 0)
        · rw [if_pos w54_27] at g54
          exact absurd g54 (by intro h; cases h)
        rw [if_neg w54_27] at g54
        by_cases w54_28 : hk D x1 = (28, 0)
        · rw [if_pos w54_28] at g54
          exact absurd g54 (by intro h; cases h)
        rw [if_neg w54_28] at g54
        by_cases w54_29 : hk D x1 = (29, 0)
        · rw [if_pos w54_29] at g54
          exact absurd g54 (by intro h; cases h)
        rw [if_neg w54_29] at g54
        by_cases w54_30 : hk D x1 = (30, 0)
        · rw [if_pos w54_30] at g54
          exact absurd g54 (by intro h; cases h)
        rw [if_neg w54_30] at g54
        by_cases w54_31 : hk D x1 = (31, 0)
        · rw [if_pos w54_31] at g54
          exact absurd g54 (by intro h; cases h)
        rw [if_neg w54_31] at g54
        by_cases w54_32 : hk D x1 = (32, 0)
        · rw [if_pos w54_32] at g54
          exact absurd g54 (by intro h; cases h)
        rw [if_neg w54_32] at g54
        by_cases w54_33 : hk D x1 = (33, 0)
        · rw [if_pos w54_33] at g54
          exact absurd g54 (by intro h; cases h)
        rw [if_neg w54_33] at g54
        by_cases w54_34 : hk D x1 = (34, 0)
        · rw [if_pos w54_34] at g54
          exact absurd g54 (by intro h; cases h)
        rw [if_neg w54_34] at g54
        by_cases w54_35 : hk D x1 = (35, 0)
        · rw [if_pos w54_35] at g54
          exact absurd g54 (by intro h; cases h)
        rw [if_neg w54_35] at g54
        by_cases w54_36 : hk D x1 = (36, 0)
        · rw [if_pos w54_36] at g54
          exact absurd g54 (by intro h; cases h)
        rw [if_neg w54_36] at g54
        by_cases w54_37 : hk D x1 = (37, 0)
        · rw [if_pos w54_37] at g54
          exact absurd g54 (by intro h; cases h)
        rw [if_neg w54_37] at g54
        by_cases w54_38 : hk D x1 = (38, 0)
        · rw [if_pos w54_38] at g54
          exact absurd g54 (by intro h; cases h)
        rw [if_neg w54_38] at g54
        by_cases w54_39 : hk D x1 = (39, 0)
        · rw [if_pos w54_39] at g54
          exact absurd g54 (by intro h; cases h)
        rw [if_neg w54_39] at g54
        by_cases w54_40 : hk D x1 = (40, 0)
        · rw [if_pos w54_40] at g54
          exact absurd g54 (by intro h; cases h)
        rw [if_neg w54_40] at g54
        by_cases w54_41 : hk D x1 = (41, 0)
        · rw [if_pos w54_41] at g54
          exact absurd g54 (by intro h; cases h)
        rw [if_neg w54_41] at g54
        by_cases w54_42 : hk D x1 = (42, 0)
        · rw [if_pos w54_42] at g54
          exact absurd g54 (by intro h; cases h)
        rw [if_neg w54_42] at g54
        by_cases w54_43 : hk D x1 = (43, 0)
        · rw [if_pos w54_43] at g54
          exact absurd g54 (by intro h; cases h)
        rw [if_neg w54_43] at g54
        by_cases w54_44 : hk D x1 = (44, 0)
        · rw [if_pos w54_44] at g54
          exact absurd g54 (by intro h; cases h)
        rw [if_neg w54_44] at g54
        by_cases w54_45 : hk D x1 = (45, 0)
        · rw [if_pos w54_45] at g54
          exact absurd g54 (by intro h; cases h)
        rw [if_neg w54_45] at g54
        by_cases w54_46 : hk D x1 = (46, 0)
        · rw [if_pos w54_46] at g54
          exact absurd g54 (by intro h; cases h)
        rw [if_neg w54_46] at g54
        by_cases w54_47 : hk D x1 = (47, 0)
        · rw [if_pos w54_47] at g54
          exact absurd g54 (by intro h; cases h)
        rw [if_neg w54_47] at g54
        by_cases w54_48 : hk D x1 = (48, 0)
        · rw [if_pos w54_48] at g54
          exact absurd g54 (by intro h; cases h)
        rw [if_neg w54_48] at g54
        by_cases w54_49 : hk D x1 = (49, 0)
        · rw [if_pos w54_49] at g54
          exact absurd g54 (by intro h; cases h)
        rw [if_neg w54_49] at g54
        by_cases w54_50 : hk D x1 = (50, 0)
        · rw [if_pos w54_50] at g54
          exact absurd g54 (by intro h; cases h)
        rw [if_neg w54_50] at g54
        by_cases w54_51 : hk D x1 = (51, 0)
        · rw [if_pos w54_51] at g54
          exact absurd g54 (by intro h; cases h)
        rw [if_neg w54_51] at g54
        by_cases w54_52 : hk D x1 = (52, 0)
        · rw [if_pos w54_52] at g54
          exact absurd g54 (by intro h; cases h)
        rw [if_neg w54_52] at g54
        by_cases w54_53 : hk D x1 = (53, 0)
        · rw [if_pos w54_53] at g54
          exact absurd g54 (by intro h; cases h)
        rw [if_neg w54_53] at g54
        by_cases w54_54 : hk D x1 = (54, 0)
        · rw [if_pos w54_54] at g54
          exact absurd g54 (by intro h; cases h)
        rw [if_neg w54_54] at g54
        by_cases w54_55 : hk D x1 = (55, 0)
        · rw [if_pos w54_55] at g54
          exact absurd g54 (by intro h; cases h)
        rw [if_neg w54_55] at g54
        by_cases w54_56 : hk D x1 = (56, 0)
        · rw [if_pos w54_56] at g54
          exact absurd g54 (by intro h; cases h)
        rw [if_neg w54_56] at g54
        by_cases w54_57 : hk D x1 = (57, 0)
        · rw [if_pos w54_57] at g54
          exact absurd g54 (by intro h; cases h)
        rw [if_neg w54_57] at g54
        by_cases w54_58 : hk D x1 = (58, 0)
        · rw [if_pos w54_58] at g54
          exact absurd g54 (by intro h; cases h)
        rw [if_neg w54_58] at g54
        by_cases w54_59 : hk D x1 = (59, 0)
        · rw [if_pos w54_59] at g54
          exact absurd g54 (by intro h; cases h)
        rw [if_neg w54_59] at g54
        by_cases w54_66 : hk D x1 = (66, 0)
        · rw [if_pos w54_66] at g54
          exact absurd g54 (by intro h; cases h)
        rw [if_neg w54_66] at g54
        by_cases w54_67 : hk D x1 = (67, 0)
        · rw [if_pos w54_67] at g54
          exact absurd g54 (by intro h; cases h)
        rw [if_neg w54_67] at g54
        by_cases w54_68 : hk D x1 = (68, 0)
        · rw [if_pos w54_68] at g54
          exact absurd g54 (by intro h; cases h)
        rw [if_neg w54_68] at g54
        by_cases w54_69 : hk D x1 = (69, 0)
        · rw [if_pos w54_69] at g54
          have hR := (h_J20_equals_ok (G := G) hP g54)
          exact hw_callM (rest := []) hR (fun hc hk9 => x_callU (C := "java/lang/String") (owner := "java/lang/Object") (as := [(2, D x4 x5)]) (rest := []) dJ2_indexOfRange_54 hc q3049 q3077 q3079 (Or.inr q3076) q3163 q3047 q471 w54_69 rfl rfl (show _ ∧ _ ∧ _ = some 1 from by decide +kernel) (by decide) (by decide) rfl (Nat.le_of_ble_eq_true rfl) hk9 aw_nox)
        rw [if_neg w54_69] at g54
        by_cases w54_70 : hk D x1 = (70, 0)
        · rw [if_pos w54_70] at g54
          have hR := (h_J25_equals_ok (G := G) hP g54)
          exact hw_callM (rest := []) hR (fun hc hk9 => x_callU (C := "java/lang/Integer") (owner := "java/lang/Object") (as := [(2, D x4 x5)]) (rest := []) dJ2_indexOfRange_54 hc q3149 q3077 q3079 (Or.inr q3076) q3147 q3148 q476 w54_70 rfl rfl (show _ ∧ _ ∧ _ = some 1 from by decide +kernel) (by decide) (by decide) rfl (Nat.le_of_ble_eq_true rfl) hk9 aw_nox)
        rw [if_neg w54_70] at g54
        by_cases w54_72 : hk D x1 = (72, 0)
        · rw [if_pos w54_72] at g54
          exact absurd g54 (by intro h; cases h)
        rw [if_neg w54_72] at g54
        by_cases w54_73 : hk D x1 = (73, 0)
        · rw [if_pos w54_73] at g54
          have hR := (h_J30_equals_ok (G := G) hP g54)
          exact hw_callM (rest := []) hR (fun hc hk9 => x_callU (C := "java/lang/Long") (owner := "java/lang/Object") (as := [(2, D x4 x5)]) (rest := []) dJ2_indexOfRange_54 hc q3157 q3077 q3079 (Or.inr q3076) q3155 q3156 q485 w54_73 rfl rfl (show _ ∧ _ ∧ _ = some 1 from by decide +kernel) (by decide) (by decide) rfl (Nat.le_of_ble_eq_true rfl) hk9 aw_nox)
        rw [if_neg w54_73] at g54
        exact absurd g54 (by intro h; cases h)
      obtain ⟨hP54, hE54, hS54⟩ := hS54
      refine hw_go ⟨hE54, hS54⟩ ?_
      by_cases c57 : r54 = 0
      · rw [if_pos c57] at h
        refine hw_1 (fun k => x_if_eq (tgt := 63) dJ2_indexOfRange_57 (by decide) (fun _ => k) (fun z => absurd c57 z)) ?_
        replace h := ga_let_some h; obtain ⟨v63, ev63, h⟩ := h
        refine hw_1 (fun k => x_iinc (ls' := [(5, (0, v63)), (1, (2, x1)), (3, (0, x3)), (4, (2, x4))]) dJ2_indexOfRange_63 rfl ev63.symm (by decide) rfl k) ?_
        refine hw_1 (fun k => x_goto (tgt := 42) dJ2_indexOfRange_66 (by decide) k) ?_
        refine hw_locs [1, 2, 3, 0] (ls' := [(1, (2, x1)), (3, (0, x3)), (4, (2, x4)), (5, (0, v63))]) rfl ?_
        exact ih _ _ _ _ _ hP54 h
      · rw [if_neg c57] at h
        refine hw_1 (fun k => x_if_eq (tgt := 63) dJ2_indexOfRange_57 (by decide) (fun z => absurd z c57) (fun _ => k)) ?_
        refine hw_locs [3] (ls' := [(5, (0, x5))]) rfl ?_
        exact hk60 _ _ hP54 h
theorem h_J2_indexOfRange_l13_ok {G : aw_G} {M0 : aw_M} {D' : ga_D} {Q : Option aw_V → aw_M → Prop} {r : Int} (hq : Q (some (0, r)) (hM D')) {k27 : Int → ga_D → ga_S} {k36 : ga_D → ga_S} (hk27 : ∀ (x5 : Int) (D : ga_D), h_P D → k27 x5 D = some (r, D') → aw_HW G "java/util/ArrayList" cJ2_indexOfRange (some (.int)) 6 2 false M0 Q aw_no D' (hn D') (hsl D') 27 [(5, (0, x5))] [] D) (hk36 : ∀ (D : ga_D), h_P D → k36 D = some (r, D') → aw_HW G "java/util/ArrayList" cJ2_indexOfRange (some (.int)) 6 2 false M0 Q aw_no D' (hn D') (hsl D') 36 [] [] D) : ∀ {n : Nat} {x3 x4 x5 : Int} {D : ga_D}, h_P D → h_J2_indexOfRange_l13 n x3 x4 x5 D k27 k36 = some (r, D') → aw_HW G "java/util/ArrayList" cJ2_indexOfRange (some (.int)) 6 2 false M0 Q aw_no D' (hn D') (hsl D') 13 [(3, (0, x3)), (4, (2, x4)), (5, (0, x5))] [] D := by
  intro n
  induction n with
  | zero => intro x3 x4 x5 D hP h; exact absurd (h : (none : ga_S) = some (r, D')) (by intro h; cases h)
  | succ n ih =>
    intro x3 x4 x5 D hP h
    have ih : ∀ (x3 x4 x5 : Int) (D : ga_D), h_P D → h_J2_indexOfRange_l13 n x3 x4 x5 D k27 k36 = some (r, D') → aw_HW G "java/util/ArrayList" cJ2_indexOfRange (some (.int)) 6 2 false M0 Q aw_no D' (hn D') (hsl D') 13 [(3, (0, x3)), (4, (2, x4)), (5, (0, x5))] [] D := fun x3 x4 x5 D hP h => ih hP h
    replace h : (if x3 ≤ x5 then (k36 D) else (ga_ck ((hk D x4).1 = 1017) (ga_ck (0 ≤ x5 ∧ x5 < (hk D x4).2) (if D x4 x5 ≠ 0 then (ga_let (aw_w32 (x5 + 1)) (fun v30 => h_J2_indexOfRange_l13 n x3 x4 v30 D k27 k36)) else (k27 x5 D)))) : ga_S) = some (r, D') := h
    refine hw_1 (fun k => x_iload dJ2_indexOfRange_13 rfl k) ?_
    refine hw_1 (fun k => x_iload_n dJ2_indexOfRange_15 rfl k) ?_
    by_cases c16 : x3 ≤ x5
    · rw [if_pos c16] at h
      refine hw_1 (fun k => x_icmp_ge (tgt := 36) dJ2_indexOfRange_16 (by decide) (fun _ => k) (fun z => absurd c16 z)) ?_
      refine hw_locs [] (ls' := []) rfl ?_
      exact hk36 _ hP h
    · rw [if_neg c16] at h
      refine hw_1 (fun k => x_icmp_ge (tgt := 36) dJ2_indexOfRange_16 (by decide) (fun z => absurd z c16) (fun _ => k)) ?_
      refine hw_1 (fun k => x_aload dJ2_indexOfRange_19 rfl k) ?_
      refine hw_1 (fun k => x_iload dJ2_indexOfRange_21 rfl k) ?_
      replace h := ga_ck_some h; obtain ⟨hc23_0, h⟩ := h
      replace h := ga_ck_some h; obtain ⟨hc23_1, h⟩ := h
      refine hw_1 (fun k => x_aald (t := 17) (v := D x4 x5) dJ2_indexOfRange_23 (hk_p hc23_0) rfl rfl hc23_1.1 hc23_1.2 rfl k) ?_
      by_cases c24 : D x4 x5 ≠ 0
      · rw [if_pos c24] at h
        refine hw_1 (fun k => x_ifnonnull (tgt := 30) dJ2_indexOfRange_24 (by decide) (fun _ => k) (fun z => absurd c24 z)) ?_
        replace h := ga_let_some h; obtain ⟨v30, ev30, h⟩ := h
        refine hw_1 (fun k => x_iinc (ls' := [(5, (0, v30)), (3, (0, x3)), (4, (2, x4))]) dJ2_indexOfRange_30 rfl ev30.symm (by decide) rfl k) ?_
        refine hw_1 (fun k => x_goto (tgt := 13) dJ2_indexOfRange_33 (by decide) k) ?_
        refine hw_locs [1, 2, 0] (ls' := [(3, (0, x3)), (4, (2, x4)), (5, (0, v30))]) rfl ?_
        exact ih _ _ _ _ hP h
      · rw [if_neg c24] at h
        refine hw_1 (fun k => x_ifnonnull (tgt := 30) dJ2_indexOfRange_24 (by decide) (fun z => absurd z c24) (fun _ => k)) ?_
        refine hw_locs [2] (ls' := [(5, (0, x5))]) rfl ?_
        exact hk27 _ _ hP h
theorem h_J2_indexOfRange_ok {G : aw_G} {D D' : ga_D} {r : Int} {x0 x1 x2 x3 : Int} (hP : h_P D) (h : h_J2_indexOfRange x0 x1 x2 x3 D = some (r, D')) : aw_HR yJ2_indexOfRange cJ2_indexOfRange 6 (some (.int)) 2 G [(2, x0), (2, x1), (0, x2), (0, x3)] D (some (0, r)) D' := by
  unfold h_J2_indexOfRange at h
  refine hw_body (own := "java/util/ArrayList") (ini := false) (ls := [(0, (2, x0)), (1, (2, x1)), (2, (0, x2)), (3, (0, x3))]) rfl rfl (fun h => by cases h) (Nat.le_of_ble_eq_true rfl) rfl fun Q hq => ?_
  refine hw_1 (fun k => x_aload_n dJ2_indexOfRange_0 rfl k) ?_
  replace h := ga_ck_some h; obtain ⟨hc1_0, h⟩ := h
  refine hw_1 (fun k => x_getf (v := D x0 1) dJ2_indexOfRange_1 fl_J2_9 hc1_0 rfl k) ?_
  replace h := ga_let_some h; obtain ⟨v4, ev4, h⟩ := h
  refine hw_nm ev4 ?_
  refine hw_1 (fun k => x_astore (ls' := [(4, (2, v4)), (0, (2, x0)), (1, (2, x1)), (2, (0, x2)), (3, (0, x3))]) dJ2_indexOfRange_4 (by decide) rfl k) ?_
  refine hw_1 (fun k => x_aload_n dJ2_indexOfRange_6 rfl k) ?_
  by_cases c7 : x1 ≠ 0
  · rw [if_pos c7] at h
    refine hw_1 (fun k => x_ifnonnull (tgt := 39) dJ2_indexOfRange_7 (by decide) (fun _ => k) (fun z => absurd c7 z)) ?_
    refine hw_1 (fun k => x_iload_n dJ2_indexOfRange_39 rfl k) ?_
    refine hw_1 (fun k => x_istore (ls' := [(5, (0, x2)), (4, (2, v4)), (0, (2, x0)), (1, (2, x1)), (2, (0, x2)), (3, (0, x3))]) dJ2_indexOfRange_40 (by decide) rfl k) ?_
    refine hw_locs [3, 5, 1, 0] (ls' := [(1, (2, x1)), (3, (0, x3)), (4, (2, v4)), (5, (0, x2))]) rfl ?_
    refine h_J2_indexOfRange_l42_ok hq (fun x5 D60 hP h => ?_) (fun D69 hP h => ?_) hP h
    · refine hw_1 (fun k => x_iload dJ2_indexOfRange_60 rfl k) ?_
      obtain ⟨rfl, rfl⟩ := ga_end h
      exact hw_ret hP (x_iret dJ2_indexOfRange_62 rfl rfl trivial hq)
    · refine hw_1 (fun k => x_iconst dJ2_indexOfRange_69 (by decide) k) ?_
      obtain ⟨rfl, rfl⟩ := ga_end h
      exact hw_ret hP (x_iret dJ2_indexOfRange_70 rfl rfl trivial hq)
  · rw [if_neg c7] at h
    refine hw_1 (fun k => x_ifnonnull (tgt := 39) dJ2_indexOfRange_7 (by decide) (fun z => absurd z c7) (fun _ => k)) ?_
    refine hw_1 (fun k => x_iload_n dJ2_indexOfRange_10 rfl k) ?_
    refine hw_1 (fun k => x_istore (ls' := [(5, (0, x2)), (4, (2, v4)), (0, (2, x0)), (1, (2, x1)), (2, (0, x2)), (3, (0, x3))]) dJ2_indexOfRange_11 (by decide) rfl k) ?_
    refine hw_locs [5, 1, 0] (ls' := [(3, (0, x3)), (4, (2, v4)), (5, (0, x2))]) rfl ?_
    refine h_J2_indexOfRange_l13_ok hq (fun x5 D27 hP h => ?_) (fun D36 hP h => ?_) hP h
    · refine hw_1 (fun k => x_iload dJ2_indexOfRange_27 rfl k) ?_
      obtain ⟨rfl, rfl⟩ := ga_end h
      exact hw_ret hP (x_iret dJ2_indexOfRange_29 rfl rfl trivial hq)
    · refine hw_1 (fun k => x_goto (tgt := 69) dJ2_indexOfRange_36 (by decide) k) ?_
      refine hw_1 (fun k => x_iconst dJ2_indexOfRange_69 (by decide) k) ?_
      obtain ⟨rfl, rfl⟩ := ga_end h
      exact hw_ret hP (x_iret dJ2_indexOfRange_70 rfl rfl trivial hq)
theorem h_J2_indexOf_ok {G : aw_G} {D D' : ga_D} {r : Int} {x0 x1 : Int} (hP : h_P D) (h : h_J2_indexOf x0 x1 D = some (r, D')) : aw_HR yJ2_indexOf cJ2_indexOf 2 (some (.int)) 3 G [(2, x0), (2, x1)] D (some (0, r)) D' := by
  unfold h_J2_indexOf at h
  refine hw_body (own := "java/util/ArrayList") (ini := false) (ls := [(0, (2, x0)), (1, (2, x1))]) rfl rfl (fun h => by cases h) (Nat.le_of_ble_eq_true rfl) rfl fun Q hq => ?_
  refine hw_1 (fun k => x_aload_n dJ2_indexOf_0 rfl k) ?_
  refine hw_1 (fun k => x_aload_n dJ2_indexOf_1 rfl k) ?_
  refine hw_1 (fun k => x_iconst dJ2_indexOf_2 (by decide) k) ?_
  refine hw_1 (fun k => x_aload_n dJ2_indexOf_3 rfl k) ?_
  replace h := ga_ck_some h; obtain ⟨hc4_0, h⟩ := h
  refine hw_1 (fun k => x_getf (v := D x0 2) dJ2_indexOf_4 fl_J2_48 hc4_0 rfl k) ?_
  replace h := ga_bind_some h; obtain ⟨r7, D7, g7, h⟩ := h
  have hR7 := (h_J2_indexOfRange_ok (G := G) hP g7)
  obtain ⟨hP7, hE7, -⟩ := id hR7
  refine hw_call (rest := []) hR7 (fun hc hk9 => x_callV (as := [(2, x1), (0, 0), (0, D x0 2)]) (rest := []) dJ2_indexOf_7 hc (lw_V q3072 q3073 q3074 q401 q3075) hc4_0 rfl rfl (show _ ∧ _ ∧ _ ∧ _ = some 3 from by decide +kernel) (by decide) (by decide) rfl (Nat.le_of_ble_eq_true rfl) hk9 aw_nox) ?_
  obtain ⟨rfl, rfl⟩ := ga_end h
  exact hw_ret hP7 (x_iret dJ2_indexOf_10 rfl rfl trivial hq)
theorem h_J27_checkIndex_ok {G : aw_G} {D D' : ga_D} {r : Int} {x0 x1 : Int} (hP : h_P D) (h : h_J27_checkIndex x0 x1 D = some (r, D')) : aw_HR yJ27_checkIndex cJ27_checkIndex 2 (some (.int)) 1 G [(0, x0), (0, x1)] D (some (0, r)) D' := by
  unfold h_J27_checkIndex at h
  refine hw_body (own := "java/util/Objects") (ini := false) (ls := [(0, (0, x0)), (1, (0, x1))]) rfl rfl (fun h => by cases h) (Nat.le_of_ble_eq_true rfl) rfl fun Q hq => ?_
  refine hw_1 (fun k => x_iload_n dJ27_checkIndex_0 rfl k) ?_
  refine hw_1 (fun k => x_iload_n dJ27_checkIndex_1 rfl k) ?_
  refine hw_1 (fun k => x_null dJ27_checkIndex_2 k) ?_
  replace h := ga_bind_some h; obtain ⟨r3, D3, g3, h⟩ := h
  have hR3 := (h_J23_checkIndex_ok (G := G) hP g3)
  obtain ⟨hP3, hE3, -⟩ := id hR3
  refine hw_call (rest := []) hR3 (fun hc hk9 => x_callS (as := [(0, x0), (0, x1), (2, 0)]) (rest := []) dJ27_checkIndex_3 hc (lw_S q3189 q2730 q474 q2731) (show _ ∧ _ ∧ _ = some 3 from by decide +kernel) (by decide) (by decide) rfl (Nat.le_of_ble_eq_true rfl) hk9 aw_nox) ?_
  obtain ⟨rfl, rfl⟩ := ga_end h
  exact hw_ret hP3 (x_iret dJ27_checkIndex_6 rfl rfl trivial hq)
theorem h_J2_elementData_ok {G : aw_G} {D D' : ga_D} {r : Int} {x0 x1 : Int} (hP : h_P D) (h : h_J2_elementData x0 x1 D = some (r, D')) : aw_HR yJ2_elementData cJ2_elementData 2 (some (.object "java/lang/Object")) 0 G [(2, x0), (0, x1)] D (some (2, r)) D' := by
  unfold h_J2_elementData at h
  refine hw_body (own := "java/util/ArrayList") (ini := false) (ls := [(0, (2, x0)), (1, (0, x1))]) rfl rfl (fun h => by cases h) (Nat.le_of_ble_eq_true rfl) rfl fun Q hq => ?_
  refine hw_1 (fun k => x_aload_n dJ2_elementData_0 rfl k) ?_
  replace h := ga_ck_some h; obtain ⟨hc1_0, h⟩ := h
  refine hw_1 (fun k => x_getf (v := D x0 1) dJ2_elementData_1 fl_J2_9 hc1_0 rfl k) ?_
  refine hw_1 (fun k => x_iload_n dJ2_elementData_4 rfl k) ?_
  replace h := ga_ck_some h; obtain ⟨hc5_1, h⟩ := h
  replace h := ga_ck_some h; obtain ⟨hc5_2, h⟩ := h
  refine hw_1 (fun k => x_aald (t := 17) (v := D (D x0 1) x1) dJ2_elementData_5 (hk_p hc5_1) rfl rfl hc5_2.1 hc5_2.2 rfl k) ?_
  obtain ⟨rfl, rfl⟩ := ga_end h
  exact hw_ret hP (x_aret dJ2_elementData_6 rfl (by first | exact Or.inl ⟨_, rfl⟩ | exact Or.inr ⟨_, rfl⟩) hq)
theorem h_J2_get_ok {G : aw_G} {D D' : ga_D} {r : Int} {x0 x1 : Int} (hP : h_P D) (h : h_J2_get x0 x1 D = some (r, D')) : aw_HR yJ2_get cJ2_get 2 (some (.object "java/lang/Object")) 2 G [(2, x0), (0, x1)] D (some (2, r)) D' := by
  unfold h_J2_get at h
  refine hw_body (own := "java/util/ArrayList") (ini := false) (ls := [(0, (2, x0)), (1, (0, x1))]) rfl rfl (fun h => by cases h) (Nat.le_of_ble_eq_true rfl) rfl fun Q hq => ?_
  refine hw_1 (fun k => x_iload_n dJ2_get_0 rfl k) ?_
  refine hw_1 (fun k => x_aload_n dJ2_get_1 rfl k) ?_
  replace h := ga_ck_some h; obtain ⟨hc2_0, h⟩ := h
  refine hw_1 (fun k => x_getf (v := D x0 2) dJ2_get_2 fl_J2_48 hc2_0 rfl k) ?_
  replace h := ga_bind_some h; obtain ⟨r5, D5, g5, h⟩ := h
  have hR5 := (h_J27_checkIndex_ok (G := G) hP g5)
  obtain ⟨hP5, hE5, -⟩ := id hR5
  refine hw_call (rest := []) hR5 (fun hc hk9 => x_callS (as := [(0, x1), (0, D x0 2)]) (rest := []) dJ2_get_5 hc (lw_S q3186 q3187 q478 q3188) (show _ ∧ _ ∧ _ = some 2 from by decide +kernel) (by decide) (by decide) rfl (Nat.le_of_ble_eq_true rfl) hk9 aw_nox) ?_
  refine hw_1 (fun k => x_pop dJ2_get_8 rfl k) ?_
  refine hw_1 (fun k => x_aload_n dJ2_get_9 rfl k) ?_
  refine hw_1 (fun k => x_iload_n dJ2_get_10 rfl k) ?_
  replace h := ga_bind_some h; obtain ⟨r11, D11, g11, h⟩ := h
  have hR11 := (h_J2_elementData_ok (G := G) hP5 g11)
  obtain ⟨hP11, hE11, -⟩ := id hR11
  refine hw_call (rest := []) hR11 (fun hc hk9 => x_callV (as := [(0, x1)]) (rest := []) dJ2_get_11 hc (lw_V q3190 q3191 q3192 q401 q3193) (h_kx hE5 hc2_0 (by decide)) rfl rfl (show _ ∧ _ ∧ _ ∧ _ = some 1 from by decide +kernel) (by decide) (by decide) rfl (Nat.le_of_ble_eq_true rfl) hk9 aw_nox) ?_
  obtain ⟨rfl, rfl⟩ := ga_end h
  exact hw_ret hP11 (x_aret dJ2_get_14 rfl (by first | exact Or.inl ⟨_, rfl⟩ | exact Or.inr ⟨_, rfl⟩) hq)
theorem h_J2_size_ok {G : aw_G} {D D' : ga_D} {r : Int} {x0 : Int} (hP : h_P D) (h : h_J2_size x0 D = some (r, D')) : aw_HR yJ2_size cJ2_size 1 (some (.int)) 0 G [(2, x0)] D (some (0, r)) D' := by
  unfold h_J2_size at h
  refine hw_body (own := "java/util/ArrayList") (ini := false) (ls := [(0, (2, x0))]) rfl rfl (fun h => by cases h) (Nat.le_of_ble_eq_true rfl) rfl fun Q hq => ?_
  refine hw_1 (fun k => x_aload_n dJ2_size_0 rfl k) ?_
  replace h := ga_ck_some h; obtain ⟨hc1_0, h⟩ := h
  refine hw_1 (fun k => x_getf (v := D x0 2) dJ2_size_1 fl_J2_48 hc1_0 rfl k) ?_
  obtain ⟨rfl, rfl⟩ := ga_end h
  exact hw_ret hP (x_iret dJ2_size_4 rfl rfl trivial hq)
theorem h_J22_charAt_ok {G : aw_G} {D D' : ga_D} {r : Int} {x0 x1 : Int} (hP : h_P D) (h : h_J22_charAt x0 x1 D = some (r, D')) : aw_HR yJ22_charAt cJ22_charAt 2 (some (.char)) 7 G [(2, x0), (0, x1)] D (some (0, r)) D' := by
  unfold h_J22_charAt at h
  refine hw_body (own := "java/lang/StringLatin1") (ini := false) (ls := [(0, (2, x0)), (1, (0, x1))]) rfl rfl (fun h => by cases h) (Nat.le_of_ble_eq_true rfl) rfl fun Q hq => ?_
  refine hw_1 (fun k => x_iload_n dJ22_charAt_0 rfl k) ?_
  refine hw_1 (fun k => x_aload_n dJ22_charAt_1 rfl k) ?_
  replace h := ga_ck_some h; obtain ⟨hc2_0, h⟩ := h
  refine hw_1 (fun k => x_alen (t := 2) dJ22_charAt_2 (hk_p hc2_0) rfl k) ?_
  replace h := ga_bind_some h; obtain ⟨r3, D3, g3, h⟩ := h
  have hR3 := (h_J20_checkIndex_ok (G := G) hP g3)
  obtain ⟨hP3, hE3, -⟩ := id hR3
  refine hw_call (rest := []) hR3 (fun hc hk9 => x_callS (as := [(0, x1), (0, (hk D x0).2)]) (rest := []) dJ22_charAt_3 hc (lw_S q3221 q2727 q471 q2728) (show _ ∧ _ ∧ _ = some 2 from by decide +kernel) (by decide) (by decide) rfl (Nat.le_of_ble_eq_true rfl) hk9 aw_nox) ?_
  refine hw_1 (fun k => x_aload_n dJ22_charAt_6 rfl k) ?_
  refine hw_1 (fun k => x_iload_n dJ22_charAt_7 rfl k) ?_
  replace h := ga_ck_some h; obtain ⟨hc8_1, h⟩ := h
  refine hw_1 (fun k => x_bald (v := D3 x0 x1) dJ22_charAt_8 (h_kx hE3 (hk_p hc2_0) (by decide)) hc8_1.1 hc8_1.2 rfl k) ?_
  refine hw_1 (fun k => x_sipush dJ22_charAt_9 (by decide) k) ?_
  refine hw_1 (fun k => x_iand dJ22_charAt_12 rfl k) ?_
  refine hw_1 (fun k => x_i2c dJ22_charAt_13 rfl k) ?_
  replace h := ga_ck_some h; obtain ⟨hc14_2, h⟩ := h
  obtain ⟨rfl, rfl⟩ := ga_end h
  exact hw_ret hP3 (x_iret dJ22_charAt_14 rfl rfl hc14_2 hq)
theorem h_J20_charAt_ok {G : aw_G} {D D' : ga_D} {r : Int} {x0 x1 : Int} (hP : h_P D) (h : h_J20_charAt x0 x1 D = some (r, D')) : aw_HR yJ20_charAt cJ20_charAt 2 (some (.char)) 8 G [(2, x0), (0, x1)] D (some (0, r)) D' := by
  unfold h_J20_charAt at h
  refine hw_body (own := "java/lang/String") (ini := false) (ls := [(0, (2, x0)), (1, (0, x1))]) rfl rfl (fun h => by cases h) (Nat.le_of_ble_eq_true rfl) rfl fun Q hq => ?_
  refine hw_1 (fun k => x_aload_n dJ20_charAt_0 rfl k) ?_
  replace h := ga_ck_some h; obtain ⟨hc1_0, h⟩ := h
  replace h := ga_bind_some h; obtain ⟨r1, D1, g1, h⟩ := h
  have hR1 := (h_J20_isLatin1_ok (G := G) hP g1)
  obtain ⟨hP1, hE1, -⟩ := id hR1
  refine hw_call (rest := []) hR1 (fun hc hk9 => x_callV (as := []) (rest := []) dJ20_charAt_1 hc (lw_V q3214 q3215 q3216 q471 q3217) hc1_0 rfl rfl (show _ ∧ _ ∧ _ ∧ _ = some 0 from by decide +kernel) (by decide) (by decide) rfl (Nat.le_of_ble_eq_true rfl) hk9 aw_nox) ?_
  by_cases c4 : r1 = 0
  · rw [if_pos c4] at h
    refine hw_1 (fun k => x_if_eq (tgt := 16) dJ20_charAt_4 (by decide) (fun _ => k) (fun z => absurd c4 z)) ?_
    refine hw_1 (fun k => x_aload_n dJ20_charAt_16 rfl k) ?_
    refine hw_1 (fun k => x_getf (v := D1 x0 0) dJ20_charAt_17 fl_J20_9 (h_kx hE1 hc1_0 (by decide)) rfl k) ?_
    refine hw_1 (fun k => x_iload_n dJ20_charAt_20 rfl k) ?_
    exact absurd h (by intro h; cases h)
  · rw [if_neg c4] at h
    refine hw_1 (fun k => x_if_eq (tgt := 16) dJ20_charAt_4 (by decide) (fun z => absurd z c4) (fun _ => k)) ?_
    refine hw_1 (fun k => x_aload_n dJ20_charAt_7 rfl k) ?_
    refine hw_1 (fun k => x_getf (v := D1 x0 0) dJ20_charAt_8 fl_J20_9 (h_kx hE1 hc1_0 (by decide)) rfl k) ?_
    refine hw_1 (fun k => x_iload_n dJ20_charAt_11 rfl k) ?_
    replace h := ga_bind_some h; obtain ⟨r12, D12, g12, h⟩ := h
    have hR12 := (h_J22_charAt_ok (G := G) hP1 g12)
    obtain ⟨hP12, hE12, -⟩ := id hR12
    refine hw_call (rest := []) hR12 (fun hc hk9 => x_callS (as := [(2, D1 x0 0), (0, x1)]) (rest := []) dJ20_charAt_12 hc (lw_S q3218 q3219 q473 q3220) (show _ ∧ _ ∧ _ = some 2 from by decide +kernel) (by decide) (by decide) rfl (Nat.le_of_ble_eq_true rfl) hk9 aw_nox) ?_
    replace h := ga_ck_some h; obtain ⟨hc15_0, h⟩ := h
    obtain ⟨rfl, rfl⟩ := ga_end h
    exact hw_ret hP12 (x_iret dJ20_charAt_15 rfl rfl hc15_0 hq)
theorem h_J20_init_3_ok {G : aw_G} {D D' : ga_D} {r : Int} {x0 x1 x2 : Int} (hx0 : 0 < x0) (hP : h_P D) (h : h_J20_init_3 x0 x1 x2 D = some (r, D')) : aw_HR yJ20_init_3 cJ20_init_3 3 none 1 G [(2, x0), (2, x1), (0, x2)] D none D' := by
  unfold h_J20_init_3 at h
  refine hw_body (own := "java/lang/String") (ini := true) (ls := [(0, (2, x0)), (1, (2, x1)), (2, (0, x2))]) rfl rfl (fun _ => rfl) (Nat.le_of_ble_eq_true rfl) rfl fun Q hq => ?_
  refine hw_1 (fun k => x_aload_n dJ20_init_3_0 rfl k) ?_
  refine hw_1 (fun k => x_objInit0 dJ20_init_3_1 q2744 q512 q513 hx0 (by decide) (Nat.le_of_ble_eq_true rfl) k) ?_
  refine hw_1 (fun k => x_aload_n dJ20_init_3_4 rfl k) ?_
  refine hw_1 (fun k => x_aload_n dJ20_init_3_5 rfl k) ?_
  replace h := ga_ck_some h; obtain ⟨hc6_0, h⟩ := h
  replace h := ga_ck_some h; obtain ⟨hc6_1, h⟩ := h
  replace h := ga_let_some h; obtain ⟨D6, eD6, h⟩ := h
  refine hw_set eD6 (Int.le_trans (by decide) hc6_1) (by decide) (fun k => x_putfF dJ20_init_3_6 fl_J20_9 rfl rfl hc6_0 hc6_1 trivial k) ?_
  have hP6 : h_P D6 := hP.set eD6 hc6_1 (by decide) (hPn hc6_0 rfl)
  have hE6 : h_E D D6 := h_E_set eD6 (by decide)
  refine hw_1 (fun k => x_aload_n dJ20_init_3_9 rfl k) ?_
  refine hw_1 (fun k => x_iload_n dJ20_init_3_10 rfl k) ?_
  replace h := ga_ck_some h; obtain ⟨hc11_2, h⟩ := h
  replace h := ga_let_some h; obtain ⟨D11, eD11, h⟩ := h
  refine hw_set eD11 (Int.le_trans (by decide) hc6_1) (by decide) (fun k => x_putfF dJ20_init_3_11 fl_J20_15 rfl rfl (h_kx hE6 hc6_0 (by decide)) hc6_1 hc11_2 k) ?_
  have hP11 : h_P D11 := hP6.set eD11 hc6_1 (by decide) (hPn (h_kx hE6 hc6_0 (by decide)) rfl)
  have hE11 : h_E D6 D11 := h_E_set eD11 (by decide)
  obtain ⟨rfl, rfl⟩ := ga_end h
  exact hw_ret hP11 (x_vret dJ20_init_3_14 rfl hq)
theorem h_J24_init_ok {G : aw_G} {D D' : ga_D} {r : Int} {x0 : Int} (hx0 : 0 < x0) (hP : h_P D) (h : h_J24_init x0 D = some (r, D')) : aw_HR yJ24_init cJ24_init 1 none 1 G [(2, x0)] D none D' := by
  unfold h_J24_init at h
  refine hw_body (own := "java/lang/Number") (ini := true) (ls := [(0, (2, x0))]) rfl rfl (fun _ => rfl) (Nat.le_of_ble_eq_true rfl) rfl fun Q hq => ?_
  refine hw_1 (fun k => x_aload_n dJ24_init_0 rfl k) ?_
  refine hw_1 (fun k => x_objInit0 dJ24_init_1 q3573 q512 q513 hx0 (by decide) (Nat.le_of_ble_eq_true rfl) k) ?_
  obtain ⟨rfl, rfl⟩ := ga_end h
  exact hw_ret hP (x_vret dJ24_init_4 rfl hq)
theorem h_J25_init_ok {G : aw_G} {D D' : ga_D} {r : Int} {x0 x1 : Int} (hx0 : 0 < x0) (hP : h_P D) (h : h_J25_init x0 x1 D = some (r, D')) : aw_HR yJ25_init cJ25_init 2 none 2 G [(2, x0), (0, x1)] D none D' := by
  unfold h_J25_init at h
  refine hw_body (own := "java/lang/Integer") (ini := true) (ls := [(0, (2, x0)), (1, (0, x1))]) rfl rfl (fun _ => rfl) (Nat.le_of_ble_eq_true rfl) rfl fun Q hq => ?_
  refine hw_1 (fun k => x_aload_n dJ25_init_0 rfl k) ?_
  replace h := ga_bind_some h; obtain ⟨r1, D1, g1, h⟩ := h
  have hR1 := (h_J24_init_ok (G := G) hx0 hP g1)
  obtain ⟨hP1, hE1, -⟩ := id hR1
  refine hw_call (rest := []) hR1 (fun hc hk9 => x_callI0 (as := []) (rest := []) dJ25_init_1 hc (lw_meth q3572) q475 q3570 q3571 hx0 rfl (show _ ∧ _ ∧ _ = some 0 from by decide +kernel) (by decide) (by decide) rfl (Nat.le_of_ble_eq_true rfl) hk9 aw_nox) ?_
  refine hw_1 (fun k => x_aload_n dJ25_init_4 rfl k) ?_
  refine hw_1 (fun k => x_iload_n dJ25_init_5 rfl k) ?_
  replace h := ga_ck_some h; obtain ⟨hc6_0, h⟩ := h
  replace h := ga_ck_some h; obtain ⟨hc6_1, h⟩ := h
  replace h := ga_let_some h; obtain ⟨D6, eD6, h⟩ := h
  refine hw_set eD6 (Int.le_trans (by decide) hc6_1) (by decide) (fun k => x_putfF dJ25_init_6 fl_J25_205 rfl rfl hc6_0 hc6_1 trivial k) ?_
  have hP6 : h_P D6 := hP1.set eD6 hc6_1 (by decide) (hPn hc6_0 rfl)
  have hE6 : h_E D1 D6 := h_E_set eD6 (by decide)
  obtain ⟨rfl, rfl⟩ := ga_end h
  exact hw_ret hP6 (x_vret dJ25_init_9 rfl hq)
theorem h_J25_valueOf_j23_ok {G : aw_G} {M0 : aw_M} {D' : ga_D} {Q : Option aw_V → aw_M → Prop} {r : Int} (hq : Q (some (2, r)) (hM D')) {x0 : Int} {D : ga_D} (hP : h_P D) (h : h_J25_valueOf_j23 x0 D = some (r, D')) : aw_HW G "java/lang/Integer" cJ25_valueOf (some (.object "java/lang/Integer")) 1 3 false M0 Q aw_no D' (hn D') (hsl D') 23 [(0, (0, x0))] [] D := by
  unfold h_J25_valueOf_j23 at h
  replace h := ga_let_some h; obtain ⟨z23, ez23, h⟩ := h
  replace h := ga_let_some h; obtain ⟨D23, eD23, h⟩ := h
  refine hy_new hP ez23 eD23 rfl rfl dJ25_valueOf_23 rfl rfl q3150 q3566 q476 (fun hP23 hE23 hz23 hg23 => ?_)
  refine hw_1 (fun k => x_dup dJ25_valueOf_26 rfl k) ?_
  refine hw_1 (fun k => x_iload_n dJ25_valueOf_27 rfl k) ?_
  replace h := ga_bind_some h; obtain ⟨r28, D28, g28, h⟩ := h
  have hR28 := (h_J25_init_ok (G := G) (hk_pos1 hz23 (by decide)) hP23 g28)
  obtain ⟨hP28, hE28, -⟩ := id hR28
  refine hw_call (rest := [(2, z23)]) hR28 (fun hc hk9 => x_callI (as := [(0, x0)]) (rest := [(2, z23)]) dJ25_valueOf_28 hc (lw_meth q3569) q476 q3567 q3568 hz23 rfl rfl (show _ ∧ _ ∧ _ = some 1 from by decide +kernel) (by decide) (by decide) rfl (Nat.le_of_ble_eq_true rfl) hk9 aw_nox) ?_
  obtain ⟨rfl, rfl⟩ := ga_end h
  exact hw_ret hP28 (x_aret dJ25_valueOf_31 rfl (by first | exact Or.inl ⟨_, rfl⟩ | exact Or.inr ⟨_, rfl⟩) hq)
theorem h_J25_valueOf_ok {G : aw_G} {D D' : ga_D} {r : Int} {x0 : Int} (hP : h_P D) (h : h_J25_valueOf x0 D = some (r, D')) : aw_HR yJ25_valueOf cJ25_valueOf 1 (some (.object "java/lang/Integer")) 3 G [(0, x0)] D (some (2, r)) D' := by
  unfold h_J25_valueOf at h
  refine hw_body (own := "java/lang/Integer") (ini := false) (ls := [(0, (0, x0))]) rfl rfl (fun h => by cases h) (Nat.le_of_ble_eq_true rfl) rfl fun Q hq => ?_
  refine hw_1 (fun k => x_iload_n dJ25_valueOf_0 rfl k) ?_
  refine hw_1 (fun k => x_bipush dJ25_valueOf_1 (by decide) k) ?_
  by_cases c3 : x0 < (-128)
  · rw [if_pos c3] at h
    refine hw_1 (fun k => x_icmp_lt (tgt := 23) dJ25_valueOf_3 (by decide) (fun _ => k) (fun z => absurd c3 z)) ?_
    refine h_J25_valueOf_j23_ok hq hP h
  · rw [if_neg c3] at h
    refine hw_1 (fun k => x_icmp_lt (tgt := 23) dJ25_valueOf_3 (by decide) (fun z => absurd z c3) (fun _ => k)) ?_
    refine hw_1 (fun k => x_iload_n dJ25_valueOf_6 rfl k) ?_
    refine hw_1 (fun k => x_gets (tg := 0) (z := 127) dJ25_valueOf_7 q3562 (by decide +kernel) k) ?_
    by_cases c10 : 127 < x0
    · rw [if_pos c10] at h
      refine hw_1 (fun k => x_icmp_gt (tgt := 23) dJ25_valueOf_10 (by decide) (fun _ => k) (fun z => absurd c10 z)) ?_
      refine h_J25_valueOf_j23_ok hq hP h
    · rw [if_neg c10] at h
      refine hw_1 (fun k => x_icmp_gt (tgt := 23) dJ25_valueOf_10 (by decide) (fun z => absurd z c10) (fun _ => k)) ?_
      replace h := ga_ck_some h; obtain ⟨hc13_0, h⟩ := h
      refine hw_1 (fun k => x_cacheI dJ25_valueOf_13 q3564 dJ25_valueOf_16 dJ25_valueOf_17 dJ25_valueOf_20 dJ25_valueOf_21 rfl hc13_0 k) ?_
      obtain ⟨rfl, rfl⟩ := ga_end h
      exact hw_ret hP (x_aret dJ25_valueOf_22 rfl (by first | exact Or.inl ⟨_, rfl⟩ | exact Or.inr ⟨_, rfl⟩) hq)
theorem h_J25_rotateRight_ok {G : aw_G} {D D' : ga_D} {r : Int} {x0 x1 : Int} (hP : h_P D) (h : h_J25_rotateRight x0 x1 D = some (r, D')) : aw_HR yJ25_rotateRight cJ25_rotateRight 2 (some (.int)) 0 G [(0, x0), (0, x1)] D (some (0, r)) D' := by
  unfold h_J25_rotateRight at h
  refine hw_body (own := "java/lang/Integer") (ini := false) (ls := [(0, (0, x0)), (1, (0, x1))]) rfl rfl (fun h => by cases h) (Nat.le_of_ble_eq_true rfl) rfl fun Q hq => ?_
  refine hw_1 (fun k => x_iload_n dJ25_rotateRight_0 rfl k) ?_
  refine hw_1 (fun k => x_iload_n dJ25_rotateRight_1 rfl k) ?_
  refine hw_1 (fun k => x_iushr dJ25_rotateRight_2 rfl k) ?_
  refine hw_1 (fun k => x_iload_n dJ25_rotateRight_3 rfl k) ?_
  refine hw_1 (fun k => x_iload_n dJ25_rotateRight_4 rfl k) ?_
  refine hw_1 (fun k => x_ineg dJ25_rotateRight_5 rfl k) ?_
  refine hw_1 (fun k => x_ishl dJ25_rotateRight_6 rfl k) ?_
  refine hw_1 (fun k => x_ior dJ25_rotateRight_7 rfl k) ?_
  obtain ⟨rfl, rfl⟩ := ga_end h
  exact hw_ret hP (x_iret dJ25_rotateRight_8 rfl rfl trivial hq)
theorem h_J27_requireNonNull_ok {G : aw_G} {D D' : ga_D} {r : Int} {x0 : Int} (hP : h_P D) (h : h_J27_requireNonNull x0 D = some (r, D')) : aw_HR yJ27_requireNonNull cJ27_requireNonNull 1 (some (.object "java/lang/Object")) 0 G [(2, x0)] D (some (2, r)) D' := by
  unfold h_J27_requireNonNull at h
  refine hw_body (own := "java/util/Objects") (ini := false) (ls := [(0, (2, x0))]) rfl rfl (fun h => by cases h) (Nat.le_of_ble_eq_true rfl) rfl fun Q hq => ?_
  refine hw_1 (fun k => x_aload_n dJ27_requireNonNull_0 rfl k) ?_
  by_cases c1 : x0 ≠ 0
  · rw [if_pos c1] at h
    refine hw_1 (fun k => x_ifnonnull (tgt := 12) dJ27_requireNonNull_1 (by decide) (fun _ => k) (fun z => absurd c1 z)) ?_
    refine hw_1 (fun k => x_aload_n dJ27_requireNonNull_12 rfl k) ?_
    obtain ⟨rfl, rfl⟩ := ga_end h
    exact hw_ret hP (x_aret dJ27_requireNonNull_13 rfl (by first | exact Or.inl ⟨_, rfl⟩ | exact Or.inr ⟨_, rfl⟩) hq)
  · rw [if_neg c1] at h
    refine hw_1 (fun k => x_ifnonnull (tgt := 12) dJ27_requireNonNull_1 (by decide) (fun z => absurd z c1) (fun _ => k)) ?_
    exact absurd h (by intro h; cases h)
theorem h_J30_init_ok {G : aw_G} {D D' : ga_D} {r : Int} {x0 x1 : Int} (hx0 : 0 < x0) (hP : h_P D) (h : h_J30_init x0 x1 D = some (r, D')) : aw_HR yJ30_init cJ30_init 3 none 2 G [(2, x0), (1, x1)] D none D' := by
  unfold h_J30_init at h
  refine hw_body (own := "java/lang/Long") (ini := true) (ls := [(0, (2, x0)), (1, (1, x1))]) rfl rfl (fun _ => rfl) (Nat.le_of_ble_eq_true rfl) rfl fun Q hq => ?_
  refine hw_1 (fun k => x_aload_n dJ30_init_0 rfl k) ?_
  replace h := ga_bind_some h; obtain ⟨r1, D1, g1, h⟩ := h
  have hR1 := (h_J24_init_ok (G := G) hx0 hP g1)
  obtain ⟨hP1, hE1, -⟩ := id hR1
  refine hw_call (rest := []) hR1 (fun hc hk9 => x_callI0 (as := []) (rest := []) dJ30_init_1 hc (lw_meth q3572) q475 q4203 q3571 hx0 rfl (show _ ∧ _ ∧ _ = some 0 from by decide +kernel) (by decide) (by decide) rfl (Nat.le_of_ble_eq_true rfl) hk9 aw_nox) ?_
  refine hw_1 (fun k => x_aload_n dJ30_init_4 rfl k) ?_
  refine hw_1 (fun k => x_lload_n dJ30_init_5 rfl k) ?_
  replace h := ga_ck_some h; obtain ⟨hc6_0, h⟩ := h
  replace h := ga_ck_some h; obtain ⟨hc6_1, h⟩ := h
  replace h := ga_let_some h; obtain ⟨D6, eD6, h⟩ := h
  refine hw_set eD6 (Int.le_trans (by decide) hc6_1) (by decide) (fun k => x_putfF dJ30_init_6 fl_J30_273 rfl rfl hc6_0 hc6_1 trivial k) ?_
  have hP6 : h_P D6 := hP1.set eD6 hc6_1 (by decide) (hPn hc6_0 rfl)
  have hE6 : h_E D1 D6 := h_E_set eD6 (by decide)
  obtain ⟨rfl, rfl⟩ := ga_end h
  exact hw_ret hP6 (x_vret dJ30_init_9 rfl hq)
theorem h_J30_valueOf_j31_ok {G : aw_G} {M0 : aw_M} {D' : ga_D} {Q : Option aw_V → aw_M → Prop} {r : Int} (hq : Q (some (2, r)) (hM D')) {x0 : Int} {D : ga_D} (hP : h_P D) (h : h_J30_valueOf_j31 x0 D = some (r, D')) : aw_HW G "java/lang/Long" cJ30_valueOf (some (.object "java/lang/Long")) 3 3 false M0 Q aw_no D' (hn D') (hsl D') 31 [(0, (1, x0))] [] D := by
  unfold h_J30_valueOf_j31 at h
  replace h := ga_let_some h; obtain ⟨z31, ez31, h⟩ := h
  replace h := ga_let_some h; obtain ⟨D31, eD31, h⟩ := h
  refine hy_new hP ez31 eD31 rfl rfl dJ30_valueOf_31 rfl rfl q3158 q4199 q485 (fun hP31 hE31 hz31 hg31 => ?_)
  refine hw_1 (fun k => x_dup dJ30_valueOf_34 rfl k) ?_
  refine hw_1 (fun k => x_lload_n dJ30_valueOf_35 rfl k) ?_
  replace h := ga_bind_some h; obtain ⟨r36, D36, g36, h⟩ := h
  have hR36 := (h_J30_init_ok (G := G) (hk_pos1 hz31 (by decide)) hP31 g36)
  obtain ⟨hP36, hE36, -⟩ := id hR36
  refine hw_call (rest := [(2, z31)]) hR36 (fun hc hk9 => x_callI (as := [(1, x0)]) (rest := [(2, z31)]) dJ30_valueOf_36 hc (lw_meth q4202) q485 q4200 q4201 hz31 rfl rfl (show _ ∧ _ ∧ _ = some 1 from by decide +kernel) (by decide) (by decide) rfl (Nat.le_of_ble_eq_true rfl) hk9 aw_nox) ?_
  obtain ⟨rfl, rfl⟩ := ga_end h
  exact hw_ret hP36 (x_aret dJ30_valueOf_39 rfl (by first | exact Or.inl ⟨_, rfl⟩ | exact Or.inr ⟨_, rfl⟩) hq)
theorem h_J30_valueOf_ok {G : aw_G} {D D' : ga_D} {r : Int} {x0 : Int} (hP : h_P D) (h : h_J30_valueOf x0 D = some (r, D')) : aw_HR yJ30_valueOf cJ30_valueOf 3 (some (.object "java/lang/Long")) 3 G [(1, x0)] D (some (2, r)) D' := by
  unfold h_J30_valueOf at h
  refine hw_body (own := "java/lang/Long") (ini := false) (ls := [(0, (1, x0))]) rfl rfl (fun h => by cases h) (Nat.le_of_ble_eq_true rfl) rfl fun Q hq => ?_
  refine hw_1 (fun k => x_sipush dJ30_valueOf_0 (by decide) k) ?_
  refine hw_1 (fun k => x_istore_n (ls' := [(2, (0, 128)), (0, (1, x0))]) dJ30_valueOf_3 (by decide) rfl k) ?_
  refine hw_1 (fun k => x_lload_n dJ30_valueOf_4 rfl k) ?_
  refine hw_1 (fun k => x_ldc2 (z := (-128)) dJ30_valueOf_5 q4195 (by decide) k) ?_
  refine hw_1 (fun k => x_lcmp dJ30_valueOf_8 rfl k) ?_
  by_cases c9 : x0 < (-128)
  · rw [if_pos c9] at h
    refine hw_1 (fun k => x_if_lt (tgt := 31) dJ30_valueOf_9 (by decide) (fun _ => k) (fun z => absurd (cmi_lt.mpr c9) z)) ?_
    refine hw_locs [1] (ls' := [(0, (1, x0))]) rfl ?_
    refine h_J30_valueOf_j31_ok hq hP h
  · rw [if_neg c9] at h
    refine hw_1 (fun k => x_if_lt (tgt := 31) dJ30_valueOf_9 (by decide) (fun z => absurd (cmi_lt.mp z) c9) (fun _ => k)) ?_
    refine hw_1 (fun k => x_lload_n dJ30_valueOf_12 rfl k) ?_
    refine hw_1 (fun k => x_ldc2 (z := 127) dJ30_valueOf_13 q4196 (by decide) k) ?_
    refine hw_1 (fun k => x_lcmp dJ30_valueOf_16 rfl k) ?_
    by_cases c17 : 127 < x0
    · rw [if_pos c17] at h
      refine hw_1 (fun k => x_if_gt (tgt := 31) dJ30_valueOf_17 (by decide) (fun _ => k) (fun z => absurd (cmi_gt.mpr c17) z)) ?_
      refine hw_locs [1] (ls' := [(0, (1, x0))]) rfl ?_
      refine h_J30_valueOf_j31_ok hq hP h
    · rw [if_neg c17] at h
      refine hw_1 (fun k => x_if_gt (tgt := 31) dJ30_valueOf_17 (by decide) (fun z => absurd (cmi_gt.mp z) c17) (fun _ => k)) ?_
      replace h := ga_ck_some h; obtain ⟨hc20_0, h⟩ := h
      refine hw_1 (fun k => x_cacheL dJ30_valueOf_20 q4197 dJ30_valueOf_23 dJ30_valueOf_24 dJ30_valueOf_25 dJ30_valueOf_28 dJ30_valueOf_29 rfl hc20_0 k) ?_
      obtain ⟨rfl, rfl⟩ := ga_end h
      exact hw_ret hP (x_aret dJ30_valueOf_30 rfl (by first | exact Or.inl ⟨_, rfl⟩ | exact Or.inr ⟨_, rfl⟩) hq)
theorem h_J30_toString_ok {G : aw_G} {D D' : ga_D} {r : Int} {x0 : Int} (hP : h_P D) (h : h_J30_toString x0 D = some (r, D')) : aw_HR yJ30_toString cJ30_toString 4 (some (.object "java/lang/String")) 2 G [(1, x0)] D (some (2, r)) D' := by
  unfold h_J30_toString at h
  refine hw_body (own := "java/lang/Long") (ini := false) (ls := [(0, (1, x0))]) rfl rfl (fun h => by cases h) (Nat.le_of_ble_eq_true rfl) rfl fun Q hq => ?_
  refine hw_1 (fun k => x_lload_n dJ30_toString_0 rfl k) ?_
  replace h := ga_bind_some h; obtain ⟨r1, D1, g1, h⟩ := h
  have hR1 := (h_J30_stringSize_ok (G := G) hP g1)
  obtain ⟨hP1, hE1, -⟩ := id hR1
  refine hw_call (rest := []) hR1 (fun hc hk9 => x_callS (as := [(1, x0)]) (rest := []) dJ30_toString_1 hc (lw_S q6608 q6545 q485 q6546) (show _ ∧ _ ∧ _ = some 1 from by decide +kernel) (by decide) (by decide) rfl (Nat.le_of_ble_eq_true rfl) hk9 aw_nox) ?_
  refine hw_1 (fun k => x_istore_n (ls' := [(2, (0, r1)), (0, (1, x0))]) dJ30_toString_4 (by decide) rfl k) ?_
  refine hw_1 (fun k => x_gets (tg := 0) (z := 1) dJ30_toString_5 q6609 (by decide +kernel) k) ?_
  refine hw_1 (fun k => x_if_eq (tgt := 32) dJ30_toString_8 (by decide) (fun z => absurd z (show ¬ ((1 : Int) = 0) from (by decide))) (fun _ => k)) ?_
  refine hw_1 (fun k => x_iload_n dJ30_toString_11 rfl k) ?_
  replace h := ga_ck_some h; obtain ⟨hc12_0, h⟩ := h
  replace h := ga_let_some h; obtain ⟨z12, ez12, h⟩ := h
  replace h := ga_let_some h; obtain ⟨D12, eD12, h⟩ := h
  refine hy_newa (t := 2) hP1 ez12 eD12 rfl rfl dJ30_toString_12 rfl (by decide) q578 hc12_0.1 hc12_0.2 (fun hP12 hE12 hz12 hg12 => ?_)
  refine hw_1 (fun k => x_astore_n (ls' := [(3, (2, z12)), (2, (0, r1)), (0, (1, x0))]) dJ30_toString_14 (by decide) rfl k) ?_
  refine hw_1 (fun k => x_lload_n dJ30_toString_15 rfl k) ?_
  refine hw_1 (fun k => x_iload_n dJ30_toString_16 rfl k) ?_
  refine hw_1 (fun k => x_aload_n dJ30_toString_17 rfl k) ?_
  replace h := ga_bind_some h; obtain ⟨r18, D18, g18, h⟩ := h
  have hR18 := (h_J30_getChars_ok (G := G) hP12 g18)
  obtain ⟨hP18, hE18, -⟩ := id hR18
  refine hw_call (rest := []) hR18 (fun hc hk9 => x_callS (as := [(1, x0), (0, r1), (2, z12)]) (rest := []) dJ30_toString_18 hc (lw_S q6610 q6550 q485 q6551) (show _ ∧ _ ∧ _ = some 3 from by decide +kernel) (by decide) (by decide) rfl (Nat.le_of_ble_eq_true rfl) hk9 aw_nox) ?_
  refine hw_1 (fun k => x_pop dJ30_toString_21 rfl k) ?_
  replace h := ga_let_some h; obtain ⟨z22, ez22, h⟩ := h
  replace h := ga_let_some h; obtain ⟨D22, eD22, h⟩ := h
  refine hy_new hP18 ez22 eD22 rfl rfl dJ30_toString_22 rfl rfl q6611 q2737 q471 (fun hP22 hE22 hz22 hg22 => ?_)
  refine hw_1 (fun k => x_dup dJ30_toString_25 rfl k) ?_
  refine hw_1 (fun k => x_aload_n dJ30_toString_26 rfl k) ?_
  refine hw_1 (fun k => x_iconst dJ30_toString_27 (by decide) k) ?_
  replace h := ga_bind_some h; obtain ⟨r28, D28, g28, h⟩ := h
  have hR28 := (h_J20_init_3_ok (G := G) (hk_pos1 hz22 (by decide)) hP22 g28)
  obtain ⟨hP28, hE28, -⟩ := id hR28
  refine hw_call (rest := [(2, z22)]) hR28 (fun hc hk9 => x_callI (as := [(2, z12), (0, 0)]) (rest := [(2, z22)]) dJ30_toString_28 hc (lw_meth q6614) q471 q6612 q6613 hz22 rfl rfl (show _ ∧ _ ∧ _ = some 2 from by decide +kernel) (by decide) (by decide) rfl (Nat.le_of_ble_eq_true rfl) hk9 aw_nox) ?_
  obtain ⟨rfl, rfl⟩ := ga_end h
  exact hw_ret hP28 (x_aret dJ30_toString_31 rfl (by first | exact Or.inl ⟨_, rfl⟩ | exact Or.inr ⟨_, rfl⟩) hq)
theorem h_J31_getKey_ok {G : aw_G} {D D' : ga_D} {r : Int} {x0 : Int} (hP : h_P D) (h : h_J31_getKey x0 D = some (r, D')) : aw_HR yJ31_getKey cJ31_getKey 1 (some (.object "java/lang/Object")) 0 G [(2, x0)] D (some (2, r)) D' := by
  unfold h_J31_getKey at h
  refine hw_body (own := "java/util/HashMap$Node") (ini := false) (ls := [(0, (2, x0))]) rfl rfl (fun h => by cases h) (Nat.le_of_ble_eq_true rfl) rfl fun Q hq => ?_
  refine hw_1 (fun k => x_aload_n dJ31_getKey_0 rfl k) ?_
  replace h := ga_ck_some h; obtain ⟨hc1_0, h⟩ := h
  refine hw_1 (fun k => x_getf (v := D x0 1) dJ31_getKey_1 fl_J31_13 hc1_0 rfl k) ?_
  obtain ⟨rfl, rfl⟩ := ga_end h
  exact hw_ret hP (x_aret dJ31_getKey_4 rfl (by first | exact Or.inl ⟨_, rfl⟩ | exact Or.inr ⟨_, rfl⟩) hq)
theorem h_J31_getValue_ok {G : aw_G} {D D' : ga_D} {r : Int} {x0 : Int} (hP : h_P D) (h : h_J31_getValue x0 D = some (r, D')) : aw_HR yJ31_getValue cJ31_getValue 1 (some (.object "java/lang/Object")) 0 G [(2, x0)] D (some (2, r)) D' := by
  unfold h_J31_getValue at h
  refine hw_body (own := "java/util/HashMap$Node") (ini := false) (ls := [(0, (2, x0))]) rfl rfl (fun h => by cases h) (Nat.le_of_ble_eq_true rfl) rfl fun Q hq => ?_
  refine hw_1 (fun k => x_aload_n dJ31_getValue_0 rfl k) ?_
  replace h := ga_ck_some h; obtain ⟨hc1_0, h⟩ := h
  refine hw_1 (fun k => x_getf (v := D x0 2) dJ31_getValue_1 fl_J31_17 hc1_0 rfl k) ?_
  obtain ⟨rfl, rfl⟩ := ga_end h
  exact hw_ret hP (x_aret dJ31_getValue_4 rfl (by first | exact Or.inl ⟨_, rfl⟩ | exact Or.inr ⟨_, rfl⟩) hq)
theorem h_J35_init_ok {G : aw_G} {D D' : ga_D} {r : Int} {x0 x1 x2 x3 : Int} (hx0 : 0 < x0) (hP : h_P D) (h : h_J35_init x0 x1 x2 x3 D = some (r, D')) : aw_HR yJ35_init cJ35_init 4 none 1 G [(2, x0), (2, x1), (2, x2), (2, x3)] D none D' := by
  unfold h_J35_init at h
  refine hw_body (own := "java/util/TreeMap$Entry") (ini := true) (ls := [(0, (2, x0)), (1, (2, x1)), (2, (2, x2)), (3, (2, x3))]) rfl rfl (fun _ => rfl) (Nat.le_of_ble_eq_true rfl) rfl fun Q hq => ?_
  refine hw_1 (fun k => x_aload_n dJ35_init_0 rfl k) ?_
  refine hw_1 (fun k => x_objInit0 dJ35_init_1 q4257 q512 q513 hx0 (by decide) (Nat.le_of_ble_eq_true rfl) k) ?_
  refine hw_1 (fun k => x_aload_n dJ35_init_4 rfl k) ?_
  refine hw_1 (fun k => x_iconst dJ35_init_5 (by decide) k) ?_
  replace h := ga_ck_some h; obtain ⟨hc6_0, h⟩ := h
  replace h := ga_let_some h; obtain ⟨D6, eD6, h⟩ := h
  refine hw_set eD6 (Int.le_trans (by decide) (hkge_76 hc6_0)) (by decide) (fun k => x_putf dJ35_init_6 fl_J35_9 rfl hc6_0 (hkge_76 hc6_0) (show (0 : Int) ≤ 1 ∧ (1 : Int) < 2 from by decide) k) ?_
  have hP6 : h_P D6 := hP.set eD6 (hkge_76 hc6_0) (by decide) (hPn hc6_0 rfl)
  have hE6 : h_E D D6 := h_E_set eD6 (by decide)
  refine hw_1 (fun k => x_aload_n dJ35_init_9 rfl k) ?_
  refine hw_1 (fun k => x_aload_n dJ35_init_10 rfl k) ?_
  replace h := ga_let_some h; obtain ⟨D11, eD11, h⟩ := h
  refine hw_set eD11 (Int.le_trans (by decide) (hkge_76 (h_kx hE6 hc6_0 (by decide)))) (by decide) (fun k => x_putf dJ35_init_11 fl_J35_15 rfl (h_kx hE6 hc6_0 (by decide)) (hkge_76 (h_kx hE6 hc6_0 (by decide))) trivial k) ?_
  have hP11 : h_P D11 := hP6.set eD11 (hkge_76 (h_kx hE6 hc6_0 (by decide))) (by decide) (hPn (h_kx hE6 hc6_0 (by decide)) rfl)
  have hE11 : h_E D6 D11 := h_E_set eD11 (by decide)
  refine hw_1 (fun k => x_aload_n dJ35_init_14 rfl k) ?_
  refine hw_1 (fun k => x_aload_n dJ35_init_15 rfl k) ?_
  replace h := ga_let_some h; obtain ⟨D16, eD16, h⟩ := h
  refine hw_set eD16 (Int.le_trans (by decide) (hkge_76 (h_kx hE11 (h_kx hE6 hc6_0 (by decide)) (by decide)))) (by decide) (fun k => x_putf dJ35_init_16 fl_J35_19 rfl (h_kx hE11 (h_kx hE6 hc6_0 (by decide)) (by decide)) (hkge_76 (h_kx hE11 (h_kx hE6 hc6_0 (by decide)) (by decide))) trivial k) ?_
  have hP16 : h_P D16 := hP11.set eD16 (hkge_76 (h_kx hE11 (h_kx hE6 hc6_0 (by decide)) (by decide))) (by decide) (hPn (h_kx hE11 (h_kx hE6 hc6_0 (by decide)) (by decide)) rfl)
  have hE16 : h_E D11 D16 := h_E_set eD16 (by decide)
  refine hw_1 (fun k => x_aload_n dJ35_init_19 rfl k) ?_
  refine hw_1 (fun k => x_aload_n dJ35_init_20 rfl k) ?_
  replace h := ga_let_some h; obtain ⟨D21, eD21, h⟩ := h
  refine hw_set eD21 (Int.le_trans (by decide) (hkge_76 (h_kx hE16 (h_kx hE11 (h_kx hE6 hc6_0 (by decide)) (by decide)) (by decide)))) (by decide) (fun k => x_putf dJ35_init_21 fl_J35_22 rfl (h_kx hE16 (h_kx hE11 (h_kx hE6 hc6_0 (by decide)) (by decide)) (by decide)) (hkge_76 (h_kx hE16 (h_kx hE11 (h_kx hE6 hc6_0 (by decide)) (by decide)) (by decide))) trivial k) ?_
  have hP21 : h_P D21 := hP16.set eD21 (hkge_76 (h_kx hE16 (h_kx hE11 (h_kx hE6 hc6_0 (by decide)) (by decide)) (by decide))) (by decide) (hPn (h_kx hE16 (h_kx hE11 (h_kx hE6 hc6_0 (by decide)) (by decide)) (by decide)) rfl)
  have hE21 : h_E D16 D21 := h_E_set eD21 (by decide)
  obtain ⟨rfl, rfl⟩ := ga_end h
  exact hw_ret hP21 (x_vret dJ35_init_24 rfl hq)
theorem h_J35_getKey_ok {G : aw_G} {D D' : ga_D} {r : Int} {x0 : Int} (hP : h_P D) (h : h_J35_getKey x0 D = some (r, D')) : aw_HR yJ35_getKey cJ35_getKey 1 (some (.object "java/lang/Object")) 0 G [(2, x0)] D (some (2, r)) D' := by
  unfold h_J35_getKey at h
  refine hw_body (own := "java/util/TreeMap$Entry") (ini := false) (ls := [(0, (2, x0))]) rfl rfl (fun h => by cases h) (Nat.le_of_ble_eq_true rfl) rfl fun Q hq => ?_
  refine hw_1 (fun k => x_aload_n dJ35_getKey_0 rfl k) ?_
  replace h := ga_ck_some h; obtain ⟨hc1_0, h⟩ := h
  refine hw_1 (fun k => x_getf (v := D x0 0) dJ35_getKey_1 fl_J35_15 hc1_0 rfl k) ?_
  obtain ⟨rfl, rfl⟩ := ga_end h
  exact hw_ret hP (x_aret dJ35_getKey_4 rfl (by first | exact Or.inl ⟨_, rfl⟩ | exact Or.inr ⟨_, rfl⟩) hq)
theorem h_J35_getValue_ok {G : aw_G} {D D' : ga_D} {r : Int} {x0 : Int} (hP : h_P D) (h : h_J35_getValue x0 D = some (r, D')) : aw_HR yJ35_getValue cJ35_getValue 1 (some (.object "java/lang/Object")) 0 G [(2, x0)] D (some (2, r)) D' := by
  unfold h_J35_getValue at h
  refine hw_body (own := "java/util/TreeMap$Entry") (ini := false) (ls := [(0, (2, x0))]) rfl rfl (fun h => by cases h) (Nat.le_of_ble_eq_true rfl) rfl fun Q hq => ?_
  refine hw_1 (fun k => x_aload_n dJ35_getValue_0 rfl k) ?_
  replace h := ga_ck_some h; obtain ⟨hc1_0, h⟩ := h
  refine hw_1 (fun k => x_getf (v := D x0 1) dJ35_getValue_1 fl_J35_19 hc1_0 rfl k) ?_
  obtain ⟨rfl, rfl⟩ := ga_end h
  exact hw_ret hP (x_aret dJ35_getValue_4 rfl (by first | exact Or.inl ⟨_, rfl⟩ | exact Or.inr ⟨_, rfl⟩) hq)
theorem h_J36_init_ok {G : aw_G} {D D' : ga_D} {r : Int} {x0 x1 : Int} (hx0 : 0 < x0) (hP : h_P D) (h : h_J36_init x0 x1 D = some (r, D')) : aw_HR yJ36_init cJ36_init 2 none 3 G [(2, x0), (2, x1)] D none D' := by
  unfold h_J36_init at h
  refine hw_body (own := "java/util/TreeMap$EntrySet") (ini := true) (ls := [(0, (2, x0)), (1, (2, x1))]) rfl rfl (fun _ => rfl) (Nat.le_of_ble_eq_true rfl) rfl fun Q hq => ?_
  refine hw_1 (fun k => x_aload_n dJ36_init_0 rfl k) ?_
  refine hw_1 (fun k => x_aload_n dJ36_init_1 rfl k) ?_
  replace h := ga_ck_some h; obtain ⟨hc2_0, h⟩ := h
  replace h := ga_let_some h; obtain ⟨D2, eD2, h⟩ := h
  refine hw_set eD2 (Int.le_trans (by decide) (hkge_77 hc2_0)) (by decide) (fun k => x_putfF dJ36_init_2 fl_J36_1 rfl rfl hc2_0 (hkge_77 hc2_0) trivial k) ?_
  have hP2 : h_P D2 := hP.set eD2 (hkge_77 hc2_0) (by decide) (hPn hc2_0 rfl)
  have hE2 : h_E D D2 := h_E_set eD2 (by decide)
  refine hw_1 (fun k => x_aload_n dJ36_init_5 rfl k) ?_
  replace h := ga_bind_some h; obtain ⟨r6, D6, g6, h⟩ := h
  have hR6 := (h_J8_init_ok (G := G) hx0 hP2 g6)
  obtain ⟨hP6, hE6, -⟩ := id hR6
  refine hw_call (rest := []) hR6 (fun hc hk9 => x_callI0 (as := []) (rest := []) dJ36_init_6 hc (lw_meth q1822) q436 q4384 q1821 hx0 rfl (show _ ∧ _ ∧ _ = some 0 from by decide +kernel) (by decide) (by decide) rfl (Nat.le_of_ble_eq_true rfl) hk9 aw_nox) ?_
  obtain ⟨rfl, rfl⟩ := ga_end h
  exact hw_ret hP6 (x_vret dJ36_init_9 rfl hq)
theorem h_J4_init_ok {G : aw_G} {D D' : ga_D} {r : Int} {x0 : Int} (hx0 : 0 < x0) (hP : h_P D) (h : h_J4_init x0 D = some (r, D')) : aw_HR yJ4_init cJ4_init 1 none 2 G [(2, x0)] D none D' := by
  unfold h_J4_init at h
  refine hw_body (own := "java/util/TreeMap") (ini := true) (ls := [(0, (2, x0))]) rfl rfl (fun _ => rfl) (Nat.le_of_ble_eq_true rfl) rfl fun Q hq => ?_
  refine hw_1 (fun k => x_aload_n dJ4_init_0 rfl k) ?_
  replace h := ga_bind_some h; obtain ⟨r1, D1, g1, h⟩ := h
  have hR1 := (h_J3_init_ok (G := G) hx0 hP g1)
  obtain ⟨hP1, hE1, -⟩ := id hR1
  refine hw_call (rest := []) hR1 (fun hc hk9 => x_callI0 (as := []) (rest := []) dJ4_init_1 hc (lw_meth q628) q402 q626 q627 hx0 rfl (show _ ∧ _ ∧ _ = some 0 from by decide +kernel) (by decide) (by decide) rfl (Nat.le_of_ble_eq_true rfl) hk9 aw_nox) ?_
  refine hw_1 (fun k => x_aload_n dJ4_init_4 rfl k) ?_
  refine hw_1 (fun k => x_iconst dJ4_init_5 (by decide) k) ?_
  replace h := ga_ck_some h; obtain ⟨hc6_0, h⟩ := h
  replace h := ga_let_some h; obtain ⟨D6, eD6, h⟩ := h
  refine hw_set eD6 (Int.le_trans (by decide) (hkge_61 hc6_0)) (by decide) (fun k => x_putf dJ4_init_6 fl_J4_7 rfl hc6_0 (hkge_61 hc6_0) trivial k) ?_
  have hP6 : h_P D6 := hP1.set eD6 (hkge_61 hc6_0) (by decide) (hPn hc6_0 rfl)
  have hE6 : h_E D1 D6 := h_E_set eD6 (by decide)
  refine hw_1 (fun k => x_aload_n dJ4_init_9 rfl k) ?_
  refine hw_1 (fun k => x_iconst dJ4_init_10 (by decide) k) ?_
  replace h := ga_let_some h; obtain ⟨D11, eD11, h⟩ := h
  refine hw_set eD11 (Int.le_trans (by decide) (hkge_61 (h_kx hE6 hc6_0 (by decide)))) (by decide) (fun k => x_putf dJ4_init_11 fl_J4_13 rfl (h_kx hE6 hc6_0 (by decide)) (hkge_61 (h_kx hE6 hc6_0 (by decide))) trivial k) ?_
  have hP11 : h_P D11 := hP6.set eD11 (hkge_61 (h_kx hE6 hc6_0 (by decide))) (by decide) (hPn (h_kx hE6 hc6_0 (by decide)) rfl)
  have hE11 : h_E D6 D11 := h_E_set eD11 (by decide)
  refine hw_1 (fun k => x_aload_n dJ4_init_14 rfl k) ?_
  refine hw_1 (fun k => x_null dJ4_init_15 k) ?_
  replace h := ga_let_some h; obtain ⟨D16, eD16, h⟩ := h
  refine hw_set eD16 (Int.le_trans (by decide) (hkge_61 (h_kx hE11 (h_kx hE6 hc6_0 (by decide)) (by decide)))) (by decide) (fun k => x_putfF dJ4_init_16 fl_J4_16 rfl rfl (h_kx hE11 (h_kx hE6 hc6_0 (by decide)) (by decide)) (hkge_61 (h_kx hE11 (h_kx hE6 hc6_0 (by decide)) (by decide))) trivial k) ?_
  have hP16 : h_P D16 := hP11.set eD16 (hkge_61 (h_kx hE11 (h_kx hE6 hc6_0 (by decide)) (by decide))) (by decide) (hPn (h_kx hE11 (h_kx hE6 hc6_0 (by decide)) (by decide)) rfl)
  have hE16 : h_E D11 D16 := h_E_set eD16 (by decide)
  obtain ⟨rfl, rfl⟩ := ga_end h
  exact hw_ret hP16 (x_vret dJ4_init_19 rfl hq)
theorem h_J4_getEntryUsingComparator_l17_ok {G : aw_G} {M0 : aw_M} {D' : ga_D} {Q : Option aw_V → aw_M → Prop} {r : Int} (hq : Q (some (2, r)) (hM D')) {k66 : Int → ga_D → ga_S} {k72 : ga_D → ga_S} (hk66 : ∀ (x4 : Int) (D : ga_D), h_P D → k66 x4 D = some (r, D') → aw_HW G "java/util/TreeMap" cJ4_getEntryUsingComparator (some (.object "java/util/TreeMap$Entry")) 6 0 false M0 Q aw_no D' (hn D') (hsl D') 66 [(4, (2, x4))] [] D) (hk72 : ∀ (D : ga_D), h_P D → k72 D = some (r, D') → aw_HW G "java/util/TreeMap" cJ4_getEntryUsingComparator (some (.object "java/util/TreeMap$Entry")) 6 0 false M0 Q aw_no D' (hn D') (hsl D') 72 [] [] D) : ∀ {n : Nat} {x2 x3 x4 : Int} {D : ga_D}, h_P D → h_J4_getEntryUsingComparator_l17 n x2 x3 x4 D k66 k72 = some (r, D') → aw_HW G "java/util/TreeMap" cJ4_getEntryUsingComparator (some (.object "java/util/TreeMap$Entry")) 6 0 false M0 Q aw_no D' (hn D') (hsl D') 17 [(2, (2, x2)), (3, (2, x3)), (4, (2, x4))] [] D := by
  intro n
  induction n with
  | zero => intro x2 x3 x4 D hP h; exact absurd (h : (none : ga_S) = some (r, D')) (by intro h; cases h)
  | succ n ih =>
    intro x2 x3 x4 D hP h
    have ih : ∀ (x2 x3 x4 : Int) (D : ga_D), h_P D → h_J4_getEntryUsingComparator_l17 n x2 x3 x4 D k66 k72 = some (r, D') → aw_HW G "java/util/TreeMap" cJ4_getEntryUsingComparator (some (.object "java/util/TreeMap$Entry")) 6 0 false M0 Q aw_no D' (hn D') (hsl D') 17 [(2, (2, x2)), (3, (2, x3)), (4, (2, x4))] [] D := fun x2 x3 x4 D hP h => ih hP h
    replace h : (if x4 = 0 then (k72 D) else (ga_ck (hk D x4 = (76, 0)) (none)) : ga_S) = some (r, D') := h
    refine hw_1 (fun k => x_aload dJ4_getEntryUsingComparator_17 rfl k) ?_
    by_cases c19 : x4 = 0
    · rw [if_pos c19] at h
      refine hw_1 (fun k => x_ifnull (tgt := 72) dJ4_getEntryUsingComparator_19 (by decide) (fun _ => k) (fun z => absurd c19 z)) ?_
      refine hw_locs [] (ls' := []) rfl ?_
      exact hk72 _ hP h
    · rw [if_neg c19] at h
      refine hw_1 (fun k => x_ifnull (tgt := 72) dJ4_getEntryUsingComparator_19 (by decide) (fun z => absurd z c19) (fun _ => k)) ?_
      refine hw_1 (fun k => x_aload_n dJ4_getEntryUsingComparator_22 rfl k) ?_
      refine hw_1 (fun k => x_aload_n dJ4_getEntryUsingComparator_23 rfl k) ?_
      refine hw_1 (fun k => x_aload dJ4_getEntryUsingComparator_24 rfl k) ?_
      replace h := ga_ck_some h; obtain ⟨hc26_0, h⟩ := h
      refine hw_1 (fun k => x_getf (v := D x4 0) dJ4_getEntryUsingComparator_26 fl_J4_105 hc26_0 rfl k) ?_
      exact absurd h (by intro h; cases h)
theorem h_J4_getEntryUsingComparator_ok {G : aw_G} {D D' : ga_D} {r : Int} {x0 x1 : Int} (hP : h_P D) (h : h_J4_getEntryUsingComparator x0 x1 D = some (r, D')) : aw_HR yJ4_getEntryUsingComparator cJ4_getEntryUsingComparator 6 (some (.object "java/util/TreeMap$Entry")) 0 G [(2, x0), (2, x1)] D (some (2, r)) D' := by
  unfold h_J4_getEntryUsingComparator at h
  refine hw_body (own := "java/util/TreeMap") (ini := false) (ls := [(0, (2, x0)), (1, (2, x1))]) rfl rfl (fun h => by cases h) (Nat.le_of_ble_eq_true rfl) rfl fun Q hq => ?_
  refine hw_1 (fun k => x_aload_n dJ4_getEntryUsingComparator_0 rfl k) ?_
  refine hw_1 (fun k => x_astore_n (ls' := [(2, (2, x1)), (0, (2, x0)), (1, (2, x1))]) dJ4_getEntryUsingComparator_1 (by decide) rfl k) ?_
  refine hw_1 (fun k => x_aload_n dJ4_getEntryUsingComparator_2 rfl k) ?_
  replace h := ga_ck_some h; obtain ⟨hc3_0, h⟩ := h
  refine hw_1 (fun k => x_getf (v := D x0 2) dJ4_getEntryUsingComparator_3 fl_J4_16 hc3_0 rfl k) ?_
  replace h := ga_let_some h; obtain ⟨v6, ev6, h⟩ := h
  refine hw_nm ev6 ?_
  refine hw_1 (fun k => x_astore_n (ls' := [(3, (2, v6)), (2, (2, x1)), (0, (2, x0)), (1, (2, x1))]) dJ4_getEntryUsingComparator_6 (by decide) rfl k) ?_
  refine hw_1 (fun k => x_aload_n dJ4_getEntryUsingComparator_7 rfl k) ?_
  by_cases c8 : v6 = 0
  · rw [if_pos c8] at h
    refine hw_1 (fun k => x_ifnull (tgt := 72) dJ4_getEntryUsingComparator_8 (by decide) (fun _ => k) (fun z => absurd c8 z)) ?_
    refine hw_1 (fun k => x_null dJ4_getEntryUsingComparator_72 k) ?_
    obtain ⟨rfl, rfl⟩ := ga_end h
    exact hw_ret hP (x_aret dJ4_getEntryUsingComparator_73 rfl (by first | exact Or.inl ⟨_, rfl⟩ | exact Or.inr ⟨_, rfl⟩) hq)
  · rw [if_neg c8] at h
    refine hw_1 (fun k => x_ifnull (tgt := 72) dJ4_getEntryUsingComparator_8 (by decide) (fun z => absurd z c8) (fun _ => k)) ?_
    refine hw_1 (fun k => x_aload_n dJ4_getEntryUsingComparator_11 rfl k) ?_
    refine hw_1 (fun k => x_getf (v := D x0 3) dJ4_getEntryUsingComparator_12 fl_J4_101 hc3_0 rfl k) ?_
    replace h := ga_let_some h; obtain ⟨v15, ev15, h⟩ := h
    refine hw_nm ev15 ?_
    refine hw_1 (fun k => x_astore (ls' := [(4, (2, v15)), (3, (2, v6)), (2, (2, x1)), (0, (2, x0)), (1, (2, x1))]) dJ4_getEntryUsingComparator_15 (by decide) rfl k) ?_
    refine hw_locs [2, 1, 0] (ls' := [(2, (2, x1)), (3, (2, v6)), (4, (2, v15))]) rfl ?_
    refine h_J4_getEntryUsingComparator_l17_ok hq (fun x4 D66 hP h => ?_) (fun D72 hP h => ?_) hP h
    · refine hw_1 (fun k => x_aload dJ4_getEntryUsingComparator_66 rfl k) ?_
      obtain ⟨rfl, rfl⟩ := ga_end h
      exact hw_ret hP (x_aret dJ4_getEntryUsingComparator_68 rfl (by first | exact Or.inl ⟨_, rfl⟩ | exact Or.inr ⟨_, rfl⟩) hq)
    · refine hw_1 (fun k => x_null dJ4_getEntryUsingComparator_72 k) ?_
      obtain ⟨rfl, rfl⟩ := ga_end h
      exact hw_ret hP (x_aret dJ4_getEntryUsingComparator_73 rfl (by first | exact Or.inl ⟨_, rfl⟩ | exact Or.inr ⟨_, rfl⟩) hq)
theorem h_J4_getEntry_l28_ok {G : aw_G} {M0 : aw_M} {D' : ga_D} {Q : Option aw_V → aw_M → Prop} {r : Int} (hq : Q (some (2, r)) (hM D')) {k70 : Int → ga_D → ga_S} {k75 : ga_D → ga_S} (hk70 : ∀ (x3 : Int) (D : ga_D), h_P D → k70 x3 D = some (r, D') → aw_HW G "java/util/TreeMap" cJ4_getEntry (some (.object "java/util/TreeMap$Entry")) 5 3 false M0 Q aw_no D' (hn D') (hsl D') 70 [(3, (2, x3))] [] D) (hk75 : ∀ (D : ga_D), h_P D → k75 D = some (r, D') → aw_HW G "java/util/TreeMap" cJ4_getEntry (some (.object "java/util/TreeMap$Entry")) 5 3 false M0 Q aw_no D' (hn D') (hsl D') 75 [] [] D) : ∀ {n : Nat} {x2 x3 : Int} {D : ga_D}, h_P D → h_J4_getEntry_l28 n x2 x3 D k70 k75 = some (r, D') → aw_HW G "java/util/TreeMap" cJ4_getEntry (some (.object "java/util/TreeMap$Entry")) 5 3 false M0 Q aw_no D' (hn D') (hsl D') 28 [(2, (2, x2)), (3, (2, x3))] [] D := by
  intro n
  induction n with
  | zero => intro x2 x3 D hP h; exact absurd (h : (none : ga_S) = some (r, D')) (by intro h; cases h)
  | succ n ih =>
    intro x2 x3 D hP h
    have ih : ∀ (x2 x3 : Int) (D : ga_D), h_P D → h_J4_getEntry_l28 n x2 x3 D k70 k75 = some (r, D') → aw_HW G "java/util/TreeMap" cJ4_getEntry (some (.object "java/util/TreeMap$Entry")) 5 3 false M0 Q aw_no D' (hn D') (hsl D') 28 [(2, (2, x2)), (3, (2, x3))] [] D := fun x2 x3 D hP h => ih hP h
    replace h : (if x3 = 0 then (k75 D) else (ga_ck (hk D x3 = (76, 0)) (ga_bind (if hk D x2 = (68, 0) then (none) else if hk D x2 = (69, 0) then (none) else if hk D x2 = (70, 0) then (h_J25_compareTo x2 (D x3 0) D) else if hk D x2 = (73, 0) then (h_J30_compareTo x2 (D x3 0) D) else none) (fun r37 D37 => if 0 ≤ r37 then (if r37 ≤ 0 then (k70 x3 D37) else (ga_let (D37 x3 3) (fun v66 => h_J4_getEntry_l28 n x2 v66 D37 k70 k75))) else (ga_let (D37 x3 2) (fun v53 => h_J4_getEntry_l28 n x2 v53 D37 k70 k75))))) : ga_S) = some (r, D') := h
    refine hw_1 (fun k => x_aload_n dJ4_getEntry_28 rfl k) ?_
    by_cases c29 : x3 = 0
    · rw [if_pos c29] at h
      refine hw_1 (fun k => x_ifnull (tgt := 75) dJ4_getEntry_29 (by decide) (fun _ => k) (fun z => absurd c29 z)) ?_
      refine hw_locs [] (ls' := []) rfl ?_
      exact hk75 _ hP h
    · rw [if_neg c29] at h
      refine hw_1 (fun k => x_ifnull (tgt := 75) dJ4_getEntry_29 (by decide) (fun z => absurd z c29) (fun _ => k)) ?_
      refine hw_1 (fun k => x_aload_n dJ4_getEntry_32 rfl k) ?_
      refine hw_1 (fun k => x_aload_n dJ4_getEntry_33 rfl k) ?_
      replace h := ga_ck_some h; obtain ⟨hc34_0, h⟩ := h
      refine hw_1 (fun k => x_getf (v := D x3 0) dJ4_getEntry_34 fl_J4_105 hc34_0 rfl k) ?_
      replace h := ga_bind_some h; obtain ⟨r37, D37, g37, h⟩ := h
      have hS37 : h_P D37 ∧ h_E D D37 ∧ ∃ mc ms : Nat, hn D + mc = hn D37 ∧ hsl D + ms = hsl D37 ∧ ∀ {c sl : Nat}, aw_W G "java/util/TreeMap" cJ4_getEntry (some (.object "java/util/TreeMap$Entry")) 5 3 false M0 Q aw_no c sl 42 [(2, (2, x2)), (3, (2, x3))] [(0, r37)] (hM D37) → aw_W G "java/util/TreeMap" cJ4_getEntry (some (.object "java/util/TreeMap$Entry")) 5 3 false M0 Q aw_no (c + mc) (sl + ms) 37 [(2, (2, x2)), (3, (2, x3))] [(2, D x3 0), (2, x2)] (hM D) := by
        by_cases w37_68 : hk D x2 = (68, 0)
        · rw [if_pos w37_68] at g37
          exact absurd g37 (by intro h; cases h)
        rw [if_neg w37_68] at g37
        by_cases w37_69 : hk D x2 = (69, 0)
        · rw [if_pos w37_69] at g37
          exact absurd g37 (by intro h; cases h)
        rw [if_neg w37_69] at g37
        by_cases w37_70 : hk D x2 = (70, 0)
        · rw [if_pos w37_70] at g37
          have hR := (h_J25_compareTo_ok (G := G) hP g37)
          exact hw_callM (rest := []) hR (fun hc hk9 => x_callF (C := "java/lang/Integer") (as := [(2, D x3 0)]) (rest := []) dJ4_getEntry_37 hc q3843 q4229 (by decide +kernel) q3839 q3841 q476 q3842 q3840 q3838 w37_70 rfl rfl (show _ = some 1 from by decide +kernel) (by decide) (by decide) rfl (Nat.le_of_ble_eq_true rfl) hk9 aw_nox)
        rw [if_neg w37_70] at g37
        by_cases w37_73 : hk D x2 = (73, 0)
        · rw [if_pos w37_73] at g37
          have hR := (h_J30_compareTo_ok (G := G) hP g37)
          exact hw_callM (rest := []) hR (fun hc hk9 => x_callF (C := "java/lang/Long") (as := [(2, D x3 0)]) (rest := []) dJ4_getEntry_37 hc q3856 q4229 (by decide +kernel) q3852 q3854 q485 q3855 q3853 q3851 w37_73 rfl rfl (show _ = some 1 from by decide +kernel) (by decide) (by decide) rfl (Nat.le_of_ble_eq_true rfl) hk9 aw_nox)
        rw [if_neg w37_73] at g37
        exact absurd g37 (by intro h; cases h)
      obtain ⟨hP37, hE37, hS37⟩ := hS37
      refine hw_go ⟨hE37, hS37⟩ ?_
      refine hw_1 (fun k => x_istore (ls' := [(4, (0, r37)), (2, (2, x2)), (3, (2, x3))]) dJ4_getEntry_42 (by decide) rfl k) ?_
      refine hw_1 (fun k => x_iload dJ4_getEntry_44 rfl k) ?_
      by_cases c46 : 0 ≤ r37
      · rw [if_pos c46] at h
        refine hw_1 (fun k => x_if_ge (tgt := 57) dJ4_getEntry_46 (by decide) (fun _ => k) (fun z => absurd c46 z)) ?_
        refine hw_1 (fun k => x_iload dJ4_getEntry_57 rfl k) ?_
        by_cases c59 : r37 ≤ 0
        · rw [if_pos c59] at h
          refine hw_1 (fun k => x_if_le (tgt := 70) dJ4_getEntry_59 (by decide) (fun _ => k) (fun z => absurd c59 z)) ?_
          refine hw_locs [2] (ls' := [(3, (2, x3))]) rfl ?_
          exact hk70 _ _ hP37 h
        · rw [if_neg c59] at h
          refine hw_1 (fun k => x_if_le (tgt := 70) dJ4_getEntry_59 (by decide) (fun z => absurd z c59) (fun _ => k)) ?_
          refine hw_1 (fun k => x_aload_n dJ4_getEntry_62 rfl k) ?_
          refine hw_1 (fun k => x_getf (v := D37 x3 3) dJ4_getEntry_63 fl_J4_114 (h_kx hE37 hc34_0 (by decide)) rfl k) ?_
          replace h := ga_let_some h; obtain ⟨v66, ev66, h⟩ := h
          refine hw_nm ev66 ?_
          refine hw_1 (fun k => x_astore_n (ls' := [(3, (2, v66)), (4, (0, r37)), (2, (2, x2))]) dJ4_getEntry_66 (by decide) rfl k) ?_
          refine hw_1 (fun k => x_goto (tgt := 72) dJ4_getEntry_67 (by decide) k) ?_
          refine hw_1 (fun k => x_goto (tgt := 28) dJ4_getEntry_72 (by decide) k) ?_
          refine hw_locs [2, 0] (ls' := [(2, (2, x2)), (3, (2, v66))]) rfl ?_
          exact ih _ _ _ hP37 h
      · rw [if_neg c46] at h
        refine hw_1 (fun k => x_if_ge (tgt := 57) dJ4_getEntry_46 (by decide) (fun z => absurd z c46) (fun _ => k)) ?_
        refine hw_1 (fun k => x_aload_n dJ4_getEntry_49 rfl k) ?_
        refine hw_1 (fun k => x_getf (v := D37 x3 2) dJ4_getEntry_50 fl_J4_111 (h_kx hE37 hc34_0 (by decide)) rfl k) ?_
        replace h := ga_let_some h; obtain ⟨v53, ev53, h⟩ := h
        refine hw_nm ev53 ?_
        refine hw_1 (fun k => x_astore_n (ls' := [(3, (2, v53)), (4, (0, r37)), (2, (2, x2))]) dJ4_getEntry_53 (by decide) rfl k) ?_
        refine hw_1 (fun k => x_goto (tgt := 72) dJ4_getEntry_54 (by decide) k) ?_
        refine hw_1 (fun k => x_goto (tgt := 28) dJ4_getEntry_72 (by decide) k) ?_
        refine hw_locs [2, 0] (ls' := [(2, (2, x2)), (3, (2, v53))]) rfl ?_
        exact ih _ _ _ hP37 h
theorem h_J4_getEntry_ok {G : aw_G} {D D' : ga_D} {r : Int} {x0 x1 : Int} (hP : h_P D) (h : h_J4_getEntry x0 x1 D = some (r, D')) : aw_HR yJ4_getEntry cJ4_getEntry 5 (some (.object "java/util/TreeMap$Entry")) 3 G [(2, x0), (2, x1)] D (some (2, r)) D' := by
  unfold h_J4_getEntry at h
  refine hw_body (own := "java/util/TreeMap") (ini := false) (ls := [(0, (2, x0)), (1, (2, x1))]) rfl rfl (fun h => by cases h) (Nat.le_of_ble_eq_true rfl) rfl fun Q hq => ?_
  refine hw_1 (fun k => x_aload_n dJ4_getEntry_0 rfl k) ?_
  replace h := ga_ck_some h; obtain ⟨hc1_0, h⟩ := h
  refine hw_1 (fun k => x_getf (v := D x0 2) dJ4_getEntry_1 fl_J4_16 hc1_0 rfl k) ?_
  by_cases c4 : D x0 2 = 0
  · rw [if_pos c4] at h
    refine hw_1 (fun k => x_ifnull (tgt := 13) dJ4_getEntry_4 (by decide) (fun _ => k) (fun z => absurd c4 z)) ?_
    refine hw_1 (fun k => x_aload_n dJ4_getEntry_13 rfl k) ?_
    replace h := ga_bind_some h; obtain ⟨r14, D14, g14, h⟩ := h
    have hR14 := (h_J27_requireNonNull_ok (G := G) hP g14)
    obtain ⟨hP14, hE14, -⟩ := id hR14
    refine hw_call (rest := []) hR14 (fun hc hk9 => x_callS (as := [(2, x1)]) (rest := []) dJ4_getEntry_14 hc (lw_S q4224 q4225 q478 q4226) (show _ ∧ _ ∧ _ = some 1 from by decide +kernel) (by decide) (by decide) rfl (Nat.le_of_ble_eq_true rfl) hk9 aw_nox) ?_
    refine hw_1 (fun k => x_pop dJ4_getEntry_17 rfl k) ?_
    refine hw_1 (fun k => x_aload_n dJ4_getEntry_18 rfl k) ?_
    replace h := ga_ck_some h; obtain ⟨hc19_0, h⟩ := h
    refine hw_1 (fun k => x_castL (L := [68, 69, 70, 73]) dJ4_getEntry_19 q4227 sbl_java_lang_Comparable (aw_or4 hc19_0) k) ?_
    refine hw_1 (fun k => x_astore_n (ls' := [(2, (2, x1)), (0, (2, x0)), (1, (2, x1))]) dJ4_getEntry_22 (by decide) rfl k) ?_
    refine hw_1 (fun k => x_aload_n dJ4_getEntry_23 rfl k) ?_
    refine hw_1 (fun k => x_getf (v := D14 x0 3) dJ4_getEntry_24 fl_J4_101 (h_kx hE14 hc1_0 (by decide)) rfl k) ?_
    replace h := ga_let_some h; obtain ⟨v27, ev27, h⟩ := h
    refine hw_nm ev27 ?_
    refine hw_1 (fun k => x_astore_n (ls' := [(3, (2, v27)), (2, (2, x1)), (0, (2, x0)), (1, (2, x1))]) dJ4_getEntry_27 (by decide) rfl k) ?_
    refine hw_locs [1, 0] (ls' := [(2, (2, x1)), (3, (2, v27))]) rfl ?_
    refine h_J4_getEntry_l28_ok hq (fun x3 D70 hP h => ?_) (fun D75 hP h => ?_) hP14 h
    · refine hw_1 (fun k => x_aload_n dJ4_getEntry_70 rfl k) ?_
      obtain ⟨rfl, rfl⟩ := ga_end h
      exact hw_ret hP (x_aret dJ4_getEntry_71 rfl (by first | exact Or.inl ⟨_, rfl⟩ | exact Or.inr ⟨_, rfl⟩) hq)
    · refine hw_1 (fun k => x_null dJ4_getEntry_75 k) ?_
      obtain ⟨rfl, rfl⟩ := ga_end h
      exact hw_ret hP (x_aret dJ4_getEntry_76 rfl (by first | exact Or.inl ⟨_, rfl⟩ | exact Or.inr ⟨_, rfl⟩) hq)
  · rw [if_neg c4] at h
    refine hw_1 (fun k => x_ifnull (tgt := 13) dJ4_getEntry_4 (by decide) (fun z => absurd z c4) (fun _ => k)) ?_
    refine hw_1 (fun k => x_aload_n dJ4_getEntry_7 rfl k) ?_
    refine hw_1 (fun k => x_aload_n dJ4_getEntry_8 rfl k) ?_
    replace h := ga_bind_some h; obtain ⟨r9, D9, g9, h⟩ := h
    have hR9 := (h_J4_getEntryUsingComparator_ok (G := G) hP g9)
    obtain ⟨hP9, hE9, -⟩ := id hR9
    refine hw_call (rest := []) hR9 (fun hc hk9 => x_callV (as := [(2, x1)]) (rest := []) dJ4_getEntry_9 hc (lw_V q4216 q4217 q4218 q403 q4219) hc1_0 rfl rfl (show _ ∧ _ ∧ _ ∧ _ = some 1 from by decide +kernel) (by decide) (by decide) rfl (Nat.le_of_ble_eq_true rfl) hk9 aw_nox) ?_
    obtain ⟨rfl, rfl⟩ := ga_end h
    exact hw_ret hP9 (x_aret dJ4_getEntry_12 rfl (by first | exact Or.inl ⟨_, rfl⟩ | exact Or.inr ⟨_, rfl⟩) hq)
theorem h_J4_containsKey_ok {G : aw_G} {D D' : ga_D} {r : Int} {x0 x1 : Int} (hP : h_P D) (h : h_J4_containsKey x0 x1 D = some (r, D')) : aw_HR yJ4_containsKey cJ4_containsKey 2 (some (.boolean)) 4 G [(2, x0), (2, x1)] D (some (0, r)) D' := by
  unfold h_J4_containsKey at h
  refine hw_body (own := "java/util/TreeMap") (ini := false) (ls := [(0, (2, x0)), (1, (2, x1))]) rfl rfl (fun h => by cases h) (Nat.le_of_ble_eq_true rfl) rfl fun Q hq => ?_
  refine hw_1 (fun k => x_aload_n dJ4_containsKey_0 rfl k) ?_
  refine hw_1 (fun k => x_aload_n dJ4_containsKey_1 rfl k) ?_
  replace h := ga_ck_some h; obtain ⟨hc2_0, h⟩ := h
  replace h := ga_bind_some h; obtain ⟨r2, D2, g2, h⟩ := h
  have hR2 := (h_J4_getEntry_ok (G := G) hP g2)
  obtain ⟨hP2, hE2, -⟩ := id hR2
  refine hw_call (rest := []) hR2 (fun hc hk9 => x_callV (as := [(2, x1)]) (rest := []) dJ4_containsKey_2 hc (lw_V q4212 q4213 q4214 q403 q4215) hc2_0 rfl rfl (show _ ∧ _ ∧ _ ∧ _ = some 1 from by decide +kernel) (by decide) (by decide) rfl (Nat.le_of_ble_eq_true rfl) hk9 aw_nox) ?_
  by_cases c5 : r2 = 0
  · rw [if_pos c5] at h
    refine hw_1 (fun k => x_ifnull (tgt := 12) dJ4_containsKey_5 (by decide) (fun _ => k) (fun z => absurd c5 z)) ?_
    refine hw_1 (fun k => x_iconst dJ4_containsKey_12 (by decide) k) ?_
    obtain ⟨rfl, rfl⟩ := ga_end h
    exact hw_ret hP2 (x_iret dJ4_containsKey_13 rfl rfl (show (0 : Int) ≤ 0 ∧ (0 : Int) < 2 from by decide) hq)
  · rw [if_neg c5] at h
    refine hw_1 (fun k => x_ifnull (tgt := 12) dJ4_containsKey_5 (by decide) (fun z => absurd z c5) (fun _ => k)) ?_
    refine hw_1 (fun k => x_iconst dJ4_containsKey_8 (by decide) k) ?_
    refine hw_1 (fun k => x_goto (tgt := 13) dJ4_containsKey_9 (by decide) k) ?_
    obtain ⟨rfl, rfl⟩ := ga_end h
    exact hw_ret hP2 (x_iret dJ4_containsKey_13 rfl rfl (show (0 : Int) ≤ 1 ∧ (1 : Int) < 2 from by decide) hq)
theorem h_J4_compare_ok {G : aw_G} {D D' : ga_D} {r : Int} {x0 x1 x2 : Int} (hP : h_P D) (h : h_J4_compare x0 x1 x2 D = some (r, D')) : aw_HR yJ4_compare cJ4_compare 3 (some (.int)) 3 G [(2, x0), (2, x1), (2, x2)] D (some (0, r)) D' := by
  unfold h_J4_compare at h
  refine hw_body (own := "java/util/TreeMap") (ini := false) (ls := [(0, (2, x0)), (1, (2, x1)), (2, (2, x2))]) rfl rfl (fun h => by cases h) (Nat.le_of_ble_eq_true rfl) rfl fun Q hq => ?_
  refine hw_1 (fun k => x_aload_n dJ4_compare_0 rfl k) ?_
  replace h := ga_ck_some h; obtain ⟨hc1_0, h⟩ := h
  refine hw_1 (fun k => x_getf (v := D x0 2) dJ4_compare_1 fl_J4_16 hc1_0 rfl k) ?_
  by_cases c4 : D x0 2 ≠ 0
  · rw [if_pos c4] at h
    refine hw_1 (fun k => x_ifnonnull (tgt := 20) dJ4_compare_4 (by decide) (fun _ => k) (fun z => absurd c4 z)) ?_
    refine hw_1 (fun k => x_aload_n dJ4_compare_20 rfl k) ?_
    refine hw_1 (fun k => x_getf (v := D x0 2) dJ4_compare_21 fl_J4_16 hc1_0 rfl k) ?_
    refine hw_1 (fun k => x_aload_n dJ4_compare_24 rfl k) ?_
    refine hw_1 (fun k => x_aload_n dJ4_compare_25 rfl k) ?_
    exact absurd h (by intro h; cases h)
  · rw [if_neg c4] at h
    refine hw_1 (fun k => x_ifnonnull (tgt := 20) dJ4_compare_4 (by decide) (fun z => absurd z c4) (fun _ => k)) ?_
    refine hw_1 (fun k => x_aload_n dJ4_compare_7 rfl k) ?_
    replace h := ga_ck_some h; obtain ⟨hc8_0, h⟩ := h
    refine hw_1 (fun k => x_castL (L := [68, 69, 70, 73]) dJ4_compare_8 q4227 sbl_java_lang_Comparable (aw_or4 hc8_0) k) ?_
    refine hw_1 (fun k => x_aload_n dJ4_compare_11 rfl k) ?_
    replace h := ga_bind_some h; obtain ⟨r12, D12, g12, h⟩ := h
    have hS12 : h_P D12 ∧ h_E D D12 ∧ ∃ mc ms : Nat, hn D + mc = hn D12 ∧ hsl D + ms = hsl D12 ∧ ∀ {c sl : Nat}, aw_W G "java/util/TreeMap" cJ4_compare (some (.int)) 3 3 false (hM D) Q aw_no c sl 17 [(0, (2, x0)), (1, (2, x1)), (2, (2, x2))] [(0, r12)] (hM D12) → aw_W G "java/util/TreeMap" cJ4_compare (some (.int)) 3 3 false (hM D) Q aw_no (c + mc) (sl + ms) 12 [(0, (2, x0)), (1, (2, x1)), (2, (2, x2))] [(2, x2), (2, x1)] (hM D) := by
      by_cases w12_68 : hk D x1 = (68, 0)
      · rw [if_pos w12_68] at g12
        exact absurd g12 (by intro h; cases h)
      rw [if_neg w12_68] at g12
      by_cases w12_69 : hk D x1 = (69, 0)
      · rw [if_pos w12_69] at g12
        exact absurd g12 (by intro h; cases h)
      rw [if_neg w12_69] at g12
      by_cases w12_70 : hk D x1 = (70, 0)
      · rw [if_pos w12_70] at g12
        have hR := (h_J25_compareTo_ok (G := G) hP g12)
        exact hw_callM (rest := []) hR (fun hc hk9 => x_callF (C := "java/lang/Integer") (as := [(2, x2)]) (rest := []) dJ4_compare_12 hc q3843 q4229 (by decide +kernel) q3839 q3841 q476 q3842 q3840 q3838 w12_70 rfl rfl (show _ = some 1 from by decide +kernel) (by decide) (by decide) rfl (Nat.le_of_ble_eq_true rfl) hk9 aw_nox)
      rw [if_neg w12_70] at g12
      by_cases w12_73 : hk D x1 = (73, 0)
      · rw [if_pos w12_73] at g12
        have hR := (h_J30_compareTo_ok (G := G) hP g12)
        exact hw_callM (rest := []) hR (fun hc hk9 => x_callF (C := "java/lang/Long") (as := [(2, x2)]) (rest := []) dJ4_compare_12 hc q3856 q4229 (by decide +kernel) q3852 q3854 q485 q3855 q3853 q3851 w12_73 rfl rfl (show _ = some 1 from by decide +kernel) (by decide) (by decide) rfl (Nat.le_of_ble_eq_true rfl) hk9 aw_nox)
      rw [if_neg w12_73] at g12
      exact absurd g12 (by intro h; cases h)
    obtain ⟨hP12, hE12, hS12⟩ := hS12
    refine hw_go ⟨hE12, hS12⟩ ?_
    refine hw_1 (fun k => x_goto (tgt := 31) dJ4_compare_17 (by decide) k) ?_
    obtain ⟨rfl, rfl⟩ := ga_end h
    exact hw_ret hP12 (x_iret dJ4_compare_31 rfl rfl trivial hq)
theorem h_J4_addEntryToEmptyMap_ok {G : aw_G} {D D' : ga_D} {r : Int} {x0 x1 x2 : Int} (hP : h_P D) (h : h_J4_addEntryToEmptyMap x0 x1 x2 D = some (r, D')) : aw_HR yJ4_addEntryToEmptyMap cJ4_addEntryToEmptyMap 3 none 4 G [(2, x0), (2, x1), (2, x2)] D none D' := by
  unfold h_J4_addEntryToEmptyMap at h
  refine hw_body (own := "java/util/TreeMap") (ini := false) (ls := [(0, (2, x0)), (1, (2, x1)), (2, (2, x2))]) rfl rfl (fun h => by cases h) (Nat.le_of_ble_eq_true rfl) rfl fun Q hq => ?_
  refine hw_1 (fun k => x_aload_n dJ4_addEntryToEmptyMap_0 rfl k) ?_
  refine hw_1 (fun k => x_aload_n dJ4_addEntryToEmptyMap_1 rfl k) ?_
  refine hw_1 (fun k => x_aload_n dJ4_addEntryToEmptyMap_2 rfl k) ?_
  replace h := ga_ck_some h; obtain ⟨hc3_0, h⟩ := h
  replace h := ga_bind_some h; obtain ⟨r3, D3, g3, h⟩ := h
  have hR3 := (h_J4_compare_ok (G := G) hP g3)
  obtain ⟨hP3, hE3, -⟩ := id hR3
  refine hw_call (rest := []) hR3 (fun hc hk9 => x_callV (as := [(2, x1), (2, x1)]) (rest := []) dJ4_addEntryToEmptyMap_3 hc (lw_V q4248 q4249 q4250 q403 q4251) hc3_0 rfl rfl (show _ ∧ _ ∧ _ ∧ _ = some 2 from by decide +kernel) (by decide) (by decide) rfl (Nat.le_of_ble_eq_true rfl) hk9 aw_nox) ?_
  refine hw_1 (fun k => x_pop dJ4_addEntryToEmptyMap_6 rfl k) ?_
  refine hw_1 (fun k => x_aload_n dJ4_addEntryToEmptyMap_7 rfl k) ?_
  replace h := ga_let_some h; obtain ⟨z8, ez8, h⟩ := h
  replace h := ga_let_some h; obtain ⟨D8, eD8, h⟩ := h
  refine hy_new hP3 ez8 eD8 rfl rfl dJ4_addEntryToEmptyMap_8 rfl rfl q4252 q4253 q493 (fun hP8 hE8 hz8 hg8 => ?_)
  refine hw_1 (fun k => x_dup dJ4_addEntryToEmptyMap_11 rfl k) ?_
  refine hw_1 (fun k => x_aload_n dJ4_addEntryToEmptyMap_12 rfl k) ?_
  refine hw_1 (fun k => x_aload_n dJ4_addEntryToEmptyMap_13 rfl k) ?_
  refine hw_1 (fun k => x_null dJ4_addEntryToEmptyMap_14 k) ?_
  replace h := ga_bind_some h; obtain ⟨r15, D15, g15, h⟩ := h
  have hR15 := (h_J35_init_ok (G := G) (hk_pos1 hz8 (by decide)) hP8 g15)
  obtain ⟨hP15, hE15, -⟩ := id hR15
  refine hw_call (rest := [(2, z8), (2, x0)]) hR15 (fun hc hk9 => x_callI (as := [(2, x1), (2, x2), (2, 0)]) (rest := [(2, z8), (2, x0)]) dJ4_addEntryToEmptyMap_15 hc (lw_meth q4256) q493 q4254 q4255 hz8 rfl rfl (show _ ∧ _ ∧ _ = some 3 from by decide +kernel) (by decide) (by decide) rfl (Nat.le_of_ble_eq_true rfl) hk9 aw_nox) ?_
  replace h := ga_let_some h; obtain ⟨D18, eD18, h⟩ := h
  refine hw_set eD18 (Int.le_trans (by decide) (hkge_61 (h_kx hE15 (h_kx hE8 (h_kx hE3 hc3_0 (by decide)) (by decide)) (by decide)))) (by decide) (fun k => x_putf dJ4_addEntryToEmptyMap_18 fl_J4_101 rfl (h_kx hE15 (h_kx hE8 (h_kx hE3 hc3_0 (by decide)) (by decide)) (by decide)) (hkge_61 (h_kx hE15 (h_kx hE8 (h_kx hE3 hc3_0 (by decide)) (by decide)) (by decide))) trivial k) ?_
  have hP18 : h_P D18 := hP15.set eD18 (hkge_61 (h_kx hE15 (h_kx hE8 (h_kx hE3 hc3_0 (by decide)) (by decide)) (by decide))) (by decide) (hPn (h_kx hE15 (h_kx hE8 (h_kx hE3 hc3_0 (by decide)) (by decide)) (by decide)) rfl)
  have hE18 : h_E D15 D18 := h_E_set eD18 (by decide)
  refine hw_1 (fun k => x_aload_n dJ4_addEntryToEmptyMap_21 rfl k) ?_
  refine hw_1 (fun k => x_iconst dJ4_addEntryToEmptyMap_22 (by decide) k) ?_
  replace h := ga_let_some h; obtain ⟨D23, eD23, h⟩ := h
  refine hw_set eD23 (Int.le_trans (by decide) (hkge_61 (h_kx hE18 (h_kx hE15 (h_kx hE8 (h_kx hE3 hc3_0 (by decide)) (by decide)) (by decide)) (by decide)))) (by decide) (fun k => x_putf dJ4_addEntryToEmptyMap_23 fl_J4_7 rfl (h_kx hE18 (h_kx hE15 (h_kx hE8 (h_kx hE3 hc3_0 (by decide)) (by decide)) (by decide)) (by decide)) (hkge_61 (h_kx hE18 (h_kx hE15 (h_kx hE8 (h_kx hE3 hc3_0 (by decide)) (by decide)) (by decide)) (by decide))) trivial k) ?_
  have hP23 : h_P D23 := hP18.set eD23 (hkge_61 (h_kx hE18 (h_kx hE15 (h_kx hE8 (h_kx hE3 hc3_0 (by decide)) (by decide)) (by decide)) (by decide))) (by decide) (hPn (h_kx hE18 (h_kx hE15 (h_kx hE8 (h_kx hE3 hc3_0 (by decide)) (by decide)) (by decide)) (by decide)) rfl)
  have hE23 : h_E D18 D23 := h_E_set eD23 (by decide)
  refine hw_1 (fun k => x_aload_n dJ4_addEntryToEmptyMap_26 rfl k) ?_
  refine hw_1 (fun k => x_dup dJ4_addEntryToEmptyMap_27 rfl k) ?_
  refine hw_1 (fun k => x_getf (v := D23 x0 5) dJ4_addEntryToEmptyMap_28 fl_J4_13 (h_kx hE23 (h_kx hE18 (h_kx hE15 (h_kx hE8 (h_kx hE3 hc3_0 (by decide)) (by decide)) (by decide)) (by decide)) (by decide)) rfl k) ?_
  refine hw_1 (fun k => x_iconst dJ4_addEntryToEmptyMap_31 (by decide) k) ?_
  refine hw_1 (fun k => x_iadd dJ4_addEntryToEmptyMap_32 rfl k) ?_
  replace h := ga_let_some h; obtain ⟨D33, eD33, h⟩ := h
  refine hw_set eD33 (Int.le_trans (by decide) (hkge_61 (h_kx hE23 (h_kx hE18 (h_kx hE15 (h_kx hE8 (h_kx hE3 hc3_0 (by decide)) (by decide)) (by decide)) (by decide)) (by decide)))) (by decide) (fun k => x_putf dJ4_addEntryToEmptyMap_33 fl_J4_13 rfl (h_kx hE23 (h_kx hE18 (h_kx hE15 (h_kx hE8 (h_kx hE3 hc3_0 (by decide)) (by decide)) (by decide)) (by decide)) (by decide)) (hkge_61 (h_kx hE23 (h_kx hE18 (h_kx hE15 (h_kx hE8 (h_kx hE3 hc3_0 (by decide)) (by decide)) (by decide)) (by decide)) (by decide))) trivial k) ?_
  have hP33 : h_P D33 := hP23.set eD33 (hkge_61 (h_kx hE23 (h_kx hE18 (h_kx hE15 (h_kx hE8 (h_kx hE3 hc3_0 (by decide)) (by decide)) (by decide)) (by decide)) (by decide))) (by decide) (hPn (h_kx hE23 (h_kx hE18 (h_kx hE15 (h_kx hE8 (h_kx hE3 hc3_0 (by decide)) (by decide)) (by decide)) (by decide)) (by decide)) rfl)
  have hE33 : h_E D23 D33 := h_E_set eD33 (by decide)
  obtain ⟨rfl, rfl⟩ := ga_end h
  exact hw_ret hP33 (x_vret dJ4_addEntryToEmptyMap_36 rfl hq)
theorem h_J4_parentOf_ok {G : aw_G} {D D' : ga_D} {r : Int} {x0 : Int} (hP : h_P D) (h : h_J4_parentOf x0 D = some (r, D')) : aw_HR yJ4_parentOf cJ4_parentOf 1 (some (.object "java/util/TreeMap$Entry")) 0 G [(2, x0)] D (some (2, r)) D' := by
  unfold h_J4_parentOf at h
  refine hw_body (own := "java/util/TreeMap") (ini := false) (ls := [(0, (2, x0))]) rfl rfl (fun h => by cases h) (Nat.le_of_ble_eq_true rfl) rfl fun Q hq => ?_
  refine hw_1 (fun k => x_aload_n dJ4_parentOf_0 rfl k) ?_
  by_cases c1 : x0 ≠ 0
  · rw [if_pos c1] at h
    refine hw_1 (fun k => x_ifnonnull (tgt := 8) dJ4_parentOf_1 (by decide) (fun _ => k) (fun z => absurd c1 z)) ?_
    refine hw_1 (fun k => x_aload_n dJ4_parentOf_8 rfl k) ?_
    replace h := ga_ck_some h; obtain ⟨hc9_0, h⟩ := h
    refine hw_1 (fun k => x_getf (v := D x0 4) dJ4_parentOf_9 fl_J4_124 hc9_0 rfl k) ?_
    obtain ⟨rfl, rfl⟩ := ga_end h
    exact hw_ret hP (x_aret dJ4_parentOf_12 rfl (by first | exact Or.inl ⟨_, rfl⟩ | exact Or.inr ⟨_, rfl⟩) hq)
  · rw [if_neg c1] at h
    refine hw_1 (fun k => x_ifnonnull (tgt := 8) dJ4_parentOf_1 (by decide) (fun z => absurd z c1) (fun _ => k)) ?_
    refine hw_1 (fun k => x_null dJ4_parentOf_4 k) ?_
    refine hw_1 (fun k => x_goto (tgt := 12) dJ4_parentOf_5 (by decide) k) ?_
    obtain ⟨rfl, rfl⟩ := ga_end h
    exact hw_ret hP (x_aret dJ4_parentOf_12 rfl (by first | exact Or.inl ⟨_, rfl⟩ | exact Or.inr ⟨_, rfl⟩) hq)
theorem h_J4_leftOf_ok {G : aw_G} {D D' : ga_D} {r : Int} {x0 : Int} (hP : h_P D) (h : h_J4_leftOf x0 D = some (r, D')) : aw_HR yJ4_leftOf cJ4_leftOf 1 (some (.object "java/util/TreeMap$Entry")) 0 G [(2, x0)] D (some (2, r)) D' := by
  unfold h_J4_leftOf at h
  refine hw_body (own := "java/util/TreeMap") (ini := false) (ls := [(0, (2, x0))]) rfl rfl (fun h => by cases h) (Nat.le_of_ble_eq_true rfl) rfl fun Q hq => ?_
  refine hw_1 (fun k => x_aload_n dJ4_leftOf_0 rfl k) ?_
  by_cases c1 : x0 ≠ 0
  · rw [if_pos c1] at h
    refine hw_1 (fun k => x_ifnonnull (tgt := 8) dJ4_leftOf_1 (by decide) (fun _ => k) (fun z => absurd c1 z)) ?_
    refine hw_1 (fun k => x_aload_n dJ4_leftOf_8 rfl k) ?_
    replace h := ga_ck_some h; obtain ⟨hc9_0, h⟩ := h
    refine hw_1 (fun k => x_getf (v := D x0 2) dJ4_leftOf_9 fl_J4_111 hc9_0 rfl k) ?_
    obtain ⟨rfl, rfl⟩ := ga_end h
    exact hw_ret hP (x_aret dJ4_leftOf_12 rfl (by first | exact Or.inl ⟨_, rfl⟩ | exact Or.inr ⟨_, rfl⟩) hq)
  · rw [if_neg c1] at h
    refine hw_1 (fun k => x_ifnonnull (tgt := 8) dJ4_leftOf_1 (by decide) (fun z => absurd z c1) (fun _ => k)) ?_
    refine hw_1 (fun k => x_null dJ4_leftOf_4 k) ?_
    refine hw_1 (fun k => x_goto (tgt := 12) dJ4_leftOf_5 (by decide) k) ?_
    obtain ⟨rfl, rfl⟩ := ga_end h
    exact hw_ret hP (x_aret dJ4_leftOf_12 rfl (by first | exact Or.inl ⟨_, rfl⟩ | exact Or.inr ⟨_, rfl⟩) hq)
theorem h_J4_rightOf_ok {G : aw_G} {D D' : ga_D} {r : Int} {x0 : Int} (hP : h_P D) (h : h_J4_rightOf x0 D = some (r, D')) : aw_HR yJ4_rightOf cJ4_rightOf 1 (some (.object "java/util/TreeMap$Entry")) 0 G [(2, x0)] D (some (2, r)) D' := by
  unfold h_J4_rightOf at h
  refine hw_body (own := "java/util/TreeMap") (ini := false) (ls := [(0, (2, x0))]) rfl rfl (fun h => by cases h) (Nat.le_of_ble_eq_true rfl) rfl fun Q hq => ?_
  refine hw_1 (fun k => x_aload_n dJ4_rightOf_0 rfl k) ?_
  by_cases c1 : x0 ≠ 0
  · rw [if_pos c1] at h
    refine hw_1 (fun k => x_ifnonnull (tgt := 8) dJ4_rightOf_1 (by decide) (fun _ => k) (fun z => absurd c1 z)) ?_
    refine hw_1 (fun k => x_aload_n dJ4_rightOf_8 rfl k) ?_
    replace h := ga_ck_some h; obtain ⟨hc9_0, h⟩ := h
    refine hw_1 (fun k => x_getf (v := D x0 3) dJ4_rightOf_9 fl_J4_114 hc9_0 rfl k) ?_
    obtain ⟨rfl, rfl⟩ := ga_end h
    exact hw_ret hP (x_aret dJ4_rightOf_12 rfl (by first | exact Or.inl ⟨_, rfl⟩ | exact Or.inr ⟨_, rfl⟩) hq)
  · rw [if_neg c1] at h
    refine hw_1 (fun k => x_ifnonnull (tgt := 8) dJ4_rightOf_1 (by decide) (fun z => absurd z c1) (fun _ => k)) ?_
    refine hw_1 (fun k => x_null dJ4_rightOf_4 k) ?_
    refine hw_1 (fun k => x_goto (tgt := 12) dJ4_rightOf_5 (by decide) k) ?_
    obtain ⟨rfl, rfl⟩ := ga_end h
    exact hw_ret hP (x_aret dJ4_rightOf_12 rfl (by first | exact Or.inl ⟨_, rfl⟩ | exact Or.inr ⟨_, rfl⟩) hq)
theorem h_J4_colorOf_ok {G : aw_G} {D D' : ga_D} {r : Int} {x0 : Int} (hP : h_P D) (h : h_J4_colorOf x0 D = some (r, D')) : aw_HR yJ4_colorOf cJ4_colorOf 1 (some (.boolean)) 0 G [(2, x0)] D (some (0, r)) D' := by
  unfold h_J4_colorOf at h
  refine hw_body (own := "java/util/TreeMap") (ini := false) (ls := [(0, (2, x0))]) rfl rfl (fun h => by cases h) (Nat.le_of_ble_eq_true rfl) rfl fun Q hq => ?_
  refine hw_1 (fun k => x_aload_n dJ4_colorOf_0 rfl k) ?_
  by_cases c1 : x0 ≠ 0
  · rw [if_pos c1] at h
    refine hw_1 (fun k => x_ifnonnull (tgt := 8) dJ4_colorOf_1 (by decide) (fun _ => k) (fun z => absurd c1 z)) ?_
    refine hw_1 (fun k => x_aload_n dJ4_colorOf_8 rfl k) ?_
    replace h := ga_ck_some h; obtain ⟨hc9_0, h⟩ := h
    refine hw_1 (fun k => x_getf (v := D x0 5) dJ4_colorOf_9 fl_J4_290 hc9_0 rfl k) ?_
    replace h := ga_ck_some h; obtain ⟨hc12_1, h⟩ := h
    obtain ⟨rfl, rfl⟩ := ga_end h
    exact hw_ret hP (x_iret dJ4_colorOf_12 rfl rfl hc12_1 hq)
  · rw [if_neg c1] at h
    refine hw_1 (fun k => x_ifnonnull (tgt := 8) dJ4_colorOf_1 (by decide) (fun z => absurd z c1) (fun _ => k)) ?_
    refine hw_1 (fun k => x_iconst dJ4_colorOf_4 (by decide) k) ?_
    refine hw_1 (fun k => x_goto (tgt := 12) dJ4_colorOf_5 (by decide) k) ?_
    obtain ⟨rfl, rfl⟩ := ga_end h
    exact hw_ret hP (x_iret dJ4_colorOf_12 rfl rfl (show (0 : Int) ≤ 1 ∧ (1 : Int) < 2 from by decide) hq)
theorem h_J4_setColor_ok {G : aw_G} {D D' : ga_D} {r : Int} {x0 x1 : Int} (hP : h_P D) (h : h_J4_setColor x0 x1 D = some (r, D')) : aw_HR yJ4_setColor cJ4_setColor 2 none 0 G [(2, x0), (0, x1)] D none D' := by
  unfold h_J4_setColor at h
  refine hw_body (own := "java/util/TreeMap") (ini := false) (ls := [(0, (2, x0)), (1, (0, x1))]) rfl rfl (fun h => by cases h) (Nat.le_of_ble_eq_true rfl) rfl fun Q hq => ?_
  refine hw_1 (fun k => x_aload_n dJ4_setColor_0 rfl k) ?_
  by_cases c1 : x0 = 0
  · rw [if_pos c1] at h
    refine hw_1 (fun k => x_ifnull (tgt := 9) dJ4_setColor_1 (by decide) (fun _ => k) (fun z => absurd c1 z)) ?_
    obtain ⟨rfl, rfl⟩ := ga_end h
    exact hw_ret hP (x_vret dJ4_setColor_9 rfl hq)
  · rw [if_neg c1] at h
    refine hw_1 (fun k => x_ifnull (tgt := 9) dJ4_setColor_1 (by decide) (fun z => absurd z c1) (fun _ => k)) ?_
    refine hw_1 (fun k => x_aload_n dJ4_setColor_4 rfl k) ?_
    refine hw_1 (fun k => x_iload_n dJ4_setColor_5 rfl k) ?_
    replace h := ga_ck_some h; obtain ⟨hc6_0, h⟩ := h
    replace h := ga_ck_some h; obtain ⟨hc6_1, h⟩ := h
    replace h := ga_let_some h; obtain ⟨D6, eD6, h⟩ := h
    refine hw_set eD6 (Int.le_trans (by decide) (hkge_76 hc6_0)) (by decide) (fun k => x_putf dJ4_setColor_6 fl_J4_290 rfl hc6_0 (hkge_76 hc6_0) hc6_1 k) ?_
    have hP6 : h_P D6 := hP.set eD6 (hkge_76 hc6_0) (by decide) (hPn hc6_0 rfl)
    have hE6 : h_E D D6 := h_E_set eD6 (by decide)
    obtain ⟨rfl, rfl⟩ := ga_end h
    exact hw_ret hP6 (x_vret dJ4_setColor_9 rfl hq)
theorem h_J4_rotateLeft_j32_ok {G : aw_G} {M0 : aw_M} {D' : ga_D} {Q : Option aw_V → aw_M → Prop} {r : Int} (hq : Q none (hM D')) {x0 x1 x2 : Int} {D : ga_D} (hP : h_P D) (h : h_J4_rotateLeft_j32 x0 x1 x2 D = some (r, D')) : aw_HW G "java/util/TreeMap" cJ4_rotateLeft none 3 0 false M0 Q aw_no D' (hn D') (hsl D') 32 [(0, (2, x0)), (1, (2, x1)), (2, (2, x2))] [] D := by
  unfold h_J4_rotateLeft_j32 at h
  refine hw_1 (fun k => x_aload_n dJ4_rotateLeft_32 rfl k) ?_
  refine hw_1 (fun k => x_aload_n dJ4_rotateLeft_33 rfl k) ?_
  replace h := ga_ck_some h; obtain ⟨hc34_0, h⟩ := h
  refine hw_1 (fun k => x_getf (v := D x1 4) dJ4_rotateLeft_34 fl_J4_124 hc34_0 rfl k) ?_
  replace h := ga_ck_some h; obtain ⟨hc37_1, h⟩ := h
  replace h := ga_let_some h; obtain ⟨D37, eD37, h⟩ := h
  refine hw_set eD37 (Int.le_trans (by decide) (hkge_76 hc37_1)) (by decide) (fun k => x_putf dJ4_rotateLeft_37 fl_J4_124 rfl hc37_1 (hkge_76 hc37_1) trivial k) ?_
  have hP37 : h_P D37 := hP.set eD37 (hkge_76 hc37_1) (by decide) (hPn hc37_1 rfl)
  have hE37 : h_E D D37 := h_E_set eD37 (by decide)
  refine hw_1 (fun k => x_aload_n dJ4_rotateLeft_40 rfl k) ?_
  refine hw_1 (fun k => x_getf (v := D37 x1 4) dJ4_rotateLeft_41 fl_J4_124 (h_kx hE37 hc34_0 (by decide)) rfl k) ?_
  by_cases c44 : D37 x1 4 ≠ 0
  · rw [if_pos c44] at h
    refine hw_1 (fun k => x_ifnonnull (tgt := 55) dJ4_rotateLeft_44 (by decide) (fun _ => k) (fun z => absurd c44 z)) ?_
    refine hw_1 (fun k => x_aload_n dJ4_rotateLeft_55 rfl k) ?_
    refine hw_1 (fun k => x_getf (v := D37 x1 4) dJ4_rotateLeft_56 fl_J4_124 (h_kx hE37 hc34_0 (by decide)) rfl k) ?_
    replace h := ga_ck_some h; obtain ⟨hc59_0, h⟩ := h
    refine hw_1 (fun k => x_getf (v := D37 (D37 x1 4) 2) dJ4_rotateLeft_59 fl_J4_111 hc59_0 rfl k) ?_
    refine hw_1 (fun k => x_aload_n dJ4_rotateLeft_62 rfl k) ?_
    replace h := ga_ck_some h; obtain ⟨hc63_1, h⟩ := h
    by_cases c63 : D37 (D37 x1 4) 2 ≠ x1
    · rw [if_pos c63] at h
      refine hw_1 (fun k => x_acmp_ne (tgt := 77) dJ4_rotateLeft_63 (by decide) hc63_1 (fun _ => k) (fun z => absurd c63 z)) ?_
      refine hw_1 (fun k => x_aload_n dJ4_rotateLeft_77 rfl k) ?_
      refine hw_1 (fun k => x_getf (v := D37 x1 4) dJ4_rotateLeft_78 fl_J4_124 (h_kx hE37 hc34_0 (by decide)) rfl k) ?_
      refine hw_1 (fun k => x_aload_n dJ4_rotateLeft_81 rfl k) ?_
      replace h := ga_let_some h; obtain ⟨D82, eD82, h⟩ := h
      refine hw_set eD82 (Int.le_trans (by decide) (hkge_76 hc59_0)) (by decide) (fun k => x_putf dJ4_rotateLeft_82 fl_J4_114 rfl hc59_0 (hkge_76 hc59_0) trivial k) ?_
      have hP82 : h_P D82 := hP37.set eD82 (hkge_76 hc59_0) (by decide) (hPn hc59_0 rfl)
      have hE82 : h_E D37 D82 := h_E_set eD82 (by decide)
      refine hw_1 (fun k => x_aload_n dJ4_rotateLeft_85 rfl k) ?_
      refine hw_1 (fun k => x_aload_n dJ4_rotateLeft_86 rfl k) ?_
      replace h := ga_let_some h; obtain ⟨D87, eD87, h⟩ := h
      refine hw_set eD87 (Int.le_trans (by decide) (hkge_76 (h_kx hE82 (h_kx hE37 hc37_1 (by decide)) (by decide)))) (by decide) (fun k => x_putf dJ4_rotateLeft_87 fl_J4_111 rfl (h_kx hE82 (h_kx hE37 hc37_1 (by decide)) (by decide)) (hkge_76 (h_kx hE82 (h_kx hE37 hc37_1 (by decide)) (by decide))) trivial k) ?_
      have hP87 : h_P D87 := hP82.set eD87 (hkge_76 (h_kx hE82 (h_kx hE37 hc37_1 (by decide)) (by decide))) (by decide) (hPn (h_kx hE82 (h_kx hE37 hc37_1 (by decide)) (by decide)) rfl)
      have hE87 : h_E D82 D87 := h_E_set eD87 (by decide)
      refine hw_1 (fun k => x_aload_n dJ4_rotateLeft_90 rfl k) ?_
      refine hw_1 (fun k => x_aload_n dJ4_rotateLeft_91 rfl k) ?_
      replace h := ga_let_some h; obtain ⟨D92, eD92, h⟩ := h
      refine hw_set eD92 (Int.le_trans (by decide) (hkge_76 (h_kx hE87 (h_kx hE82 (h_kx hE37 hc34_0 (by decide)) (by decide)) (by decide)))) (by decide) (fun k => x_putf dJ4_rotateLeft_92 fl_J4_124 rfl (h_kx hE87 (h_kx hE82 (h_kx hE37 hc34_0 (by decide)) (by decide)) (by decide)) (hkge_76 (h_kx hE87 (h_kx hE82 (h_kx hE37 hc34_0 (by decide)) (by decide)) (by decide))) trivial k) ?_
      have hP92 : h_P D92 := hP87.set eD92 (hkge_76 (h_kx hE87 (h_kx hE82 (h_kx hE37 hc34_0 (by decide)) (by decide)) (by decide))) (by decide) (hPn (h_kx hE87 (h_kx hE82 (h_kx hE37 hc34_0 (by decide)) (by decide)) (by decide)) rfl)
      have hE92 : h_E D87 D92 := h_E_set eD92 (by decide)
      obtain ⟨rfl, rfl⟩ := ga_end h
      exact hw_ret hP92 (x_vret dJ4_rotateLeft_95 rfl hq)
    · rw [if_neg c63] at h
      refine hw_1 (fun k => x_acmp_ne (tgt := 77) dJ4_rotateLeft_63 (by decide) hc63_1 (fun z => absurd z c63) (fun _ => k)) ?_
      refine hw_1 (fun k => x_aload_n dJ4_rotateLeft_66 rfl k) ?_
      refine hw_1 (fun k => x_getf (v := D37 x1 4) dJ4_rotateLeft_67 fl_J4_124 (h_kx hE37 hc34_0 (by decide)) rfl k) ?_
      refine hw_1 (fun k => x_aload_n dJ4_rotateLeft_70 rfl k) ?_
      replace h := ga_let_some h; obtain ⟨D71, eD71, h⟩ := h
      refine hw_set eD71 (Int.le_trans (by decide) (hkge_76 hc59_0)) (by decide) (fun k => x_putf dJ4_rotateLeft_71 fl_J4_111 rfl hc59_0 (hkge_76 hc59_0) trivial k) ?_
      have hP71 : h_P D71 := hP37.set eD71 (hkge_76 hc59_0) (by decide) (hPn hc59_0 rfl)
      have hE71 : h_E D37 D71 := h_E_set eD71 (by decide)
      refine hw_1 (fun k => x_goto (tgt := 85) dJ4_rotateLeft_74 (by decide) k) ?_
      refine hw_1 (fun k => x_aload_n dJ4_rotateLeft_85 rfl k) ?_
      refine hw_1 (fun k => x_aload_n dJ4_rotateLeft_86 rfl k) ?_
      replace h := ga_let_some h; obtain ⟨D87, eD87, h⟩ := h
      refine hw_set eD87 (Int.le_trans (by decide) (hkge_76 (h_kx hE71 (h_kx hE37 hc37_1 (by decide)) (by decide)))) (by decide) (fun k => x_putf dJ4_rotateLeft_87 fl_J4_111 rfl (h_kx hE71 (h_kx hE37 hc37_1 (by decide)) (by decide)) (hkge_76 (h_kx hE71 (h_kx hE37 hc37_1 (by decide)) (by decide))) trivial k) ?_
      have hP87 : h_P D87 := hP71.set eD87 (hkge_76 (h_kx hE71 (h_kx hE37 hc37_1 (by decide)) (by decide))) (by decide) (hPn (h_kx hE71 (h_kx hE37 hc37_1 (by decide)) (by decide)) rfl)
      have hE87 : h_E D71 D87 := h_E_set eD87 (by decide)
      refine hw_1 (fun k => x_aload_n dJ4_rotateLeft_90 rfl k) ?_
      refine hw_1 (fun k => x_aload_n dJ4_rotateLeft_91 rfl k) ?_
      replace h := ga_let_some h; obtain ⟨D92, eD92, h⟩ := h
      refine hw_set eD92 (Int.le_trans (by decide) (hkge_76 (h_kx hE87 (h_kx hE71 (h_kx hE37 hc34_0 (by decide)) (by decide)) (by decide)))) (by decide) (fun k => x_putf dJ4_rotateLeft_92 fl_J4_124 rfl (h_kx hE87 (h_kx hE71 (h_kx hE37 hc34_0 (by decide)) (by decide)) (by decide)) (hkge_76 (h_kx hE87 (h_kx hE71 (h_kx hE37 hc34_0 (by decide)) (by decide)) (by decide))) trivial k) ?_
      have hP92 : h_P D92 := hP87.set eD92 (hkge_76 (h_kx hE87 (h_kx hE71 (h_kx hE37 hc34_0 (by decide)) (by decide)) (by decide))) (by decide) (hPn (h_kx hE87 (h_kx hE71 (h_kx hE37 hc34_0 (by decide)) (by decide)) (by decide)) rfl)
      have hE92 : h_E D87 D92 := h_E_set eD92 (by decide)
      obtain ⟨rfl, rfl⟩ := ga_end h
      exact hw_ret hP92 (x_vret dJ4_rotateLeft_95 rfl hq)
  · rw [if_neg c44] at h
    refine hw_1 (fun k => x_ifnonnull (tgt := 55) dJ4_rotateLeft_44 (by decide) (fun z => absurd z c44) (fun _ => k)) ?_
    refine hw_1 (fun k => x_aload_n dJ4_rotateLeft_47 rfl k) ?_
    refine hw_1 (fun k => x_aload_n dJ4_rotateLeft_48 rfl k) ?_
    replace h := ga_ck_some h; obtain ⟨hc49_0, h⟩ := h
    replace h := ga_let_some h; obtain ⟨D49, eD49, h⟩ := h
    refine hw_set eD49 (Int.le_trans (by decide) (hkge_61 hc49_0)) (by decide) (fun k => x_putf dJ4_rotateLeft_49 fl_J4_101 rfl hc49_0 (hkge_61 hc49_0) trivial k) ?_
    have hP49 : h_P D49 := hP37.set eD49 (hkge_61 hc49_0) (by decide) (hPn hc49_0 rfl)
    have hE49 : h_E D37 D49 := h_E_set eD49 (by decide)
    refine hw_1 (fun k => x_goto (tgt := 85) dJ4_rotateLeft_52 (by decide) k) ?_
    refine hw_1 (fun k => x_aload_n dJ4_rotateLeft_85 rfl k) ?_
    refine hw_1 (fun k => x_aload_n dJ4_rotateLeft_86 rfl k) ?_
    replace h := ga_let_some h; obtain ⟨D87, eD87, h⟩ := h
    refine hw_set eD87 (Int.le_trans (by decide) (hkge_76 (h_kx hE49 (h_kx hE37 hc37_1 (by decide)) (by decide)))) (by decide) (fun k => x_putf dJ4_rotateLeft_87 fl_J4_111 rfl (h_kx hE49 (h_kx hE37 hc37_1 (by decide)) (by decide)) (hkge_76 (h_kx hE49 (h_kx hE37 hc37_1 (by decide)) (by decide))) trivial k) ?_
    have hP87 : h_P D87 := hP49.set eD87 (hkge_76 (h_kx hE49 (h_kx hE37 hc37_1 (by decide)) (by decide))) (by decide) (hPn (h_kx hE49 (h_kx hE37 hc37_1 (by decide)) (by decide)) rfl)
    have hE87 : h_E D49 D87 := h_E_set eD87 (by decide)
    refine hw_1 (fun k => x_aload_n dJ4_rotateLeft_90 rfl k) ?_
    refine hw_1 (fun k => x_aload_n dJ4_rotateLeft_91 rfl k) ?_
    replace h := ga_let_some h; obtain ⟨D92, eD92, h⟩ := h
    refine hw_set eD92 (Int.le_trans (by decide) (hkge_76 (h_kx hE87 (h_kx hE49 (h_kx hE37 hc34_0 (by decide)) (by decide)) (by decide)))) (by decide) (fun k => x_putf dJ4_rotateLeft_92 fl_J4_124 rfl (h_kx hE87 (h_kx hE49 (h_kx hE37 hc34_0 (by decide)) (by decide)) (by decide)) (hkge_76 (h_kx hE87 (h_kx hE49 (h_kx hE37 hc34_0 (by decide)) (by decide)) (by decide))) trivial k) ?_
    have hP92 : h_P D92 := hP87.set eD92 (hkge_76 (h_kx hE87 (h_kx hE49 (h_kx hE37 hc34_0 (by decide)) (by decide)) (by decide))) (by decide) (hPn (h_kx hE87 (h_kx hE49 (h_kx hE37 hc34_0 (by decide)) (by decide)) (by decide)) rfl)
    have hE92 : h_E D87 D92 := h_E_set eD92 (by decide)
    obtain ⟨rfl, rfl⟩ := ga_end h
    exact hw_ret hP92 (x_vret dJ4_rotateLeft_95 rfl hq)
theorem h_J4_rotateLeft_ok {G : aw_G} {D D' : ga_D} {r : Int} {x0 x1 : Int} (hP : h_P D) (h : h_J4_rotateLeft x0 x1 D = some (r, D')) : aw_HR yJ4_rotateLeft cJ4_rotateLeft 3 none 0 G [(2, x0), (2, x1)] D none D' := by
  unfold h_J4_rotateLeft at h
  refine hw_body (own := "java/util/TreeMap") (ini := false) (ls := [(0, (2, x0)), (1, (2, x1))]) rfl rfl (fun h => by cases h) (Nat.le_of_ble_eq_true rfl) rfl fun Q hq => ?_
  refine hw_1 (fun k => x_aload_n dJ4_rotateLeft_0 rfl k) ?_
  by_cases c1 : x1 = 0
  · rw [if_pos c1] at h
    refine hw_1 (fun k => x_ifnull (tgt := 95) dJ4_rotateLeft_1 (by decide) (fun _ => k) (fun z => absurd c1 z)) ?_
    obtain ⟨rfl, rfl⟩ := ga_end h
    exact hw_ret hP (x_vret dJ4_rotateLeft_95 rfl hq)
  · rw [if_neg c1] at h
    refine hw_1 (fun k => x_ifnull (tgt := 95) dJ4_rotateLeft_1 (by decide) (fun z => absurd z c1) (fun _ => k)) ?_
    refine hw_1 (fun k => x_aload_n dJ4_rotateLeft_4 rfl k) ?_
    replace h := ga_ck_some h; obtain ⟨hc5_0, h⟩ := h
    refine hw_1 (fun k => x_getf (v := D x1 3) dJ4_rotateLeft_5 fl_J4_114 hc5_0 rfl k) ?_
    replace h := ga_let_some h; obtain ⟨v8, ev8, h⟩ := h
    refine hw_nm ev8 ?_
    refine hw_1 (fun k => x_astore_n (ls' := [(2, (2, v8)), (0, (2, x0)), (1, (2, x1))]) dJ4_rotateLeft_8 (by decide) rfl k) ?_
    refine hw_1 (fun k => x_aload_n dJ4_rotateLeft_9 rfl k) ?_
    refine hw_1 (fun k => x_aload_n dJ4_rotateLeft_10 rfl k) ?_
    replace h := ga_ck_some h; obtain ⟨hc11_1, h⟩ := h
    refine hw_1 (fun k => x_getf (v := D v8 2) dJ4_rotateLeft_11 fl_J4_111 hc11_1 rfl k) ?_
    replace h := ga_let_some h; obtain ⟨D14, eD14, h⟩ := h
    refine hw_set eD14 (Int.le_trans (by decide) (hkge_76 hc5_0)) (by decide) (fun k => x_putf dJ4_rotateLeft_14 fl_J4_114 rfl hc5_0 (hkge_76 hc5_0) trivial k) ?_
    have hP14 : h_P D14 := hP.set eD14 (hkge_76 hc5_0) (by decide) (hPn hc5_0 rfl)
    have hE14 : h_E D D14 := h_E_set eD14 (by decide)
    refine hw_1 (fun k => x_aload_n dJ4_rotateLeft_17 rfl k) ?_
    refine hw_1 (fun k => x_getf (v := D14 v8 2) dJ4_rotateLeft_18 fl_J4_111 (h_kx hE14 hc11_1 (by decide)) rfl k) ?_
    by_cases c21 : D14 v8 2 = 0
    · rw [if_pos c21] at h
      refine hw_1 (fun k => x_ifnull (tgt := 32) dJ4_rotateLeft_21 (by decide) (fun _ => k) (fun z => absurd c21 z)) ?_
      refine hw_locs [1, 2, 0] (ls' := [(0, (2, x0)), (1, (2, x1)), (2, (2, v8))]) rfl ?_
      refine h_J4_rotateLeft_j32_ok hq hP14 h
    · rw [if_neg c21] at h
      refine hw_1 (fun k => x_ifnull (tgt := 32) dJ4_rotateLeft_21 (by decide) (fun z => absurd z c21) (fun _ => k)) ?_
      refine hw_1 (fun k => x_aload_n dJ4_rotateLeft_24 rfl k) ?_
      refine hw_1 (fun k => x_getf (v := D14 v8 2) dJ4_rotateLeft_25 fl_J4_111 (h_kx hE14 hc11_1 (by decide)) rfl k) ?_
      refine hw_1 (fun k => x_aload_n dJ4_rotateLeft_28 rfl k) ?_
      replace h := ga_ck_some h; obtain ⟨hc29_0, h⟩ := h
      replace h := ga_let_some h; obtain ⟨D29, eD29, h⟩ := h
      refine hw_set eD29 (Int.le_trans (by decide) (hkge_76 hc29_0)) (by decide) (fun k => x_putf dJ4_rotateLeft_29 fl_J4_124 rfl hc29_0 (hkge_76 hc29_0) trivial k) ?_
      have hP29 : h_P D29 := hP14.set eD29 (hkge_76 hc29_0) (by decide) (hPn hc29_0 rfl)
      have hE29 : h_E D14 D29 := h_E_set eD29 (by decide)
      refine hw_locs [1, 2, 0] (ls' := [(0, (2, x0)), (1, (2, x1)), (2, (2, v8))]) rfl ?_
      refine h_J4_rotateLeft_j32_ok hq hP29 h
theorem h_J4_rotateRight_j32_ok {G : aw_G} {M0 : aw_M} {D' : ga_D} {Q : Option aw_V → aw_M → Prop} {r : Int} (hq : Q none (hM D')) {x0 x1 x2 : Int} {D : ga_D} (hP : h_P D) (h : h_J4_rotateRight_j32 x0 x1 x2 D = some (r, D')) : aw_HW G "java/util/TreeMap" cJ4_rotateRight none 3 0 false M0 Q aw_no D' (hn D') (hsl D') 32 [(0, (2, x0)), (1, (2, x1)), (2, (2, x2))] [] D := by
  unfold h_J4_rotateRight_j32 at h
  refine hw_1 (fun k => x_aload_n dJ4_rotateRight_32 rfl k) ?_
  refine hw_1 (fun k => x_aload_n dJ4_rotateRight_33 rfl k) ?_
  replace h := ga_ck_some h; obtain ⟨hc34_0, h⟩ := h
  refine hw_1 (fun k => x_getf (v := D x1 4) dJ4_rotateRight_34 fl_J4_124 hc34_0 rfl k) ?_
  replace h := ga_ck_some h; obtain ⟨hc37_1, h⟩ := h
  replace h := ga_let_some h; obtain ⟨D37, eD37, h⟩ := h
  refine hw_set eD37 (Int.le_trans (by decide) (hkge_76 hc37_1)) (by decide) (fun k => x_putf dJ4_rotateRight_37 fl_J4_124 rfl hc37_1 (hkge_76 hc37_1) trivial k) ?_
  have hP37 : h_P D37 := hP.set eD37 (hkge_76 hc37_1) (by decide) (hPn hc37_1 rfl)
  have hE37 : h_E D D37 := h_E_set eD37 (by decide)
  refine hw_1 (fun k => x_aload_n dJ4_rotateRight_40 rfl k) ?_
  refine hw_1 (fun k => x_getf (v := D37 x1 4) dJ4_rotateRight_41 fl_J4_124 (h_kx hE37 hc34_0 (by decide)) rfl k) ?_
  by_cases c44 : D37 x1 4 ≠ 0
  · rw [if_pos c44] at h
    refine hw_1 (fun k => x_ifnonnull (tgt := 55) dJ4_rotateRight_44 (by decide) (fun _ => k) (fun z => absurd c44 z)) ?_
    refine hw_1 (fun k => x_aload_n dJ4_rotateRight_55 rfl k) ?_
    refine hw_1 (fun k => x_getf (v := D37 x1 4) dJ4_rotateRight_56 fl_J4_124 (h_kx hE37 hc34_0 (by decide)) rfl k) ?_
    replace h := ga_ck_some h; obtain ⟨hc59_0, h⟩ := h
    refine hw_1 (fun k => x_getf (v := D37 (D37 x1 4) 3) dJ4_rotateRight_59 fl_J4_114 hc59_0 rfl k) ?_
    refine hw_1 (fun k => x_aload_n dJ4_rotateRight_62 rfl k) ?_
    replace h := ga_ck_some h; obtain ⟨hc63_1, h⟩ := h
    by_cases c63 : D37 (D37 x1 4) 3 ≠ x1
    · rw [if_pos c63] at h
      refine hw_1 (fun k => x_acmp_ne (tgt := 77) dJ4_rotateRight_63 (by decide) hc63_1 (fun _ => k) (fun z => absurd c63 z)) ?_
      refine hw_1 (fun k => x_aload_n dJ4_rotateRight_77 rfl k) ?_
      refine hw_1 (fun k => x_getf (v := D37 x1 4) dJ4_rotateRight_78 fl_J4_124 (h_kx hE37 hc34_0 (by decide)) rfl k) ?_
      refine hw_1 (fun k => x_aload_n dJ4_rotateRight_81 rfl k) ?_
      replace h := ga_let_some h; obtain ⟨D82, eD82, h⟩ := h
      refine hw_set eD82 (Int.le_trans (by decide) (hkge_76 hc59_0)) (by decide) (fun k => x_putf dJ4_rotateRight_82 fl_J4_111 rfl hc59_0 (hkge_76 hc59_0) trivial k) ?_
      have hP82 : h_P D82 := hP37.set eD82 (hkge_76 hc59_0) (by decide) (hPn hc59_0 rfl)
      have hE82 : h_E D37 D82 := h_E_set eD82 (by decide)
      refine hw_1 (fun k => x_aload_n dJ4_rotateRight_85 rfl k) ?_
      refine hw_1 (fun k => x_aload_n dJ4_rotateRight_86 rfl k) ?_
      replace h := ga_let_some h; obtain ⟨D87, eD87, h⟩ := h
      refine hw_set eD87 (Int.le_trans (by decide) (hkge_76 (h_kx hE82 (h_kx hE37 hc37_1 (by decide)) (by decide)))) (by decide) (fun k => x_putf dJ4_rotateRight_87 fl_J4_114 rfl (h_kx hE82 (h_kx hE37 hc37_1 (by decide)) (by decide)) (hkge_76 (h_kx hE82 (h_kx hE37 hc37_1 (by decide)) (by decide))) trivial k) ?_
      have hP87 : h_P D87 := hP82.set eD87 (hkge_76 (h_kx hE82 (h_kx hE37 hc37_1 (by decide)) (by decide))) (by decide) (hPn (h_kx hE82 (h_kx hE37 hc37_1 (by decide)) (by decide)) rfl)
      have hE87 : h_E D82 D87 := h_E_set eD87 (by decide)
      refine hw_1 (fun k => x_aload_n dJ4_rotateRight_90 rfl k) ?_
      refine hw_1 (fun k => x_aload_n dJ4_rotateRight_91 rfl k) ?_
      replace h := ga_let_some h; obtain ⟨D92, eD92, h⟩ := h
      refine hw_set eD92 (Int.le_trans (by decide) (hkge_76 (h_kx hE87 (h_kx hE82 (h_kx hE37 hc34_0 (by decide)) (by decide)) (by decide)))) (by decide) (fun k => x_putf dJ4_rotateRight_92 fl_J4_124 rfl (h_kx hE87 (h_kx hE82 (h_kx hE37 hc34_0 (by decide)) (by decide)) (by decide)) (hkge_76 (h_kx hE87 (h_kx hE82 (h_kx hE37 hc34_0 (by decide)) (by decide)) (by decide))) trivial k) ?_
      have hP92 : h_P D92 := hP87.set eD92 (hkge_76 (h_kx hE87 (h_kx hE82 (h_kx hE37 hc34_0 (by decide)) (by decide)) (by decide))) (by decide) (hPn (h_kx hE87 (h_kx hE82 (h_kx hE37 hc34_0 (by decide)) (by decide)) (by decide)) rfl)
      have hE92 : h_E D87 D92 := h_E_set eD92 (by decide)
      obtain ⟨rfl, rfl⟩ := ga_end h
      exact hw_ret hP92 (x_vret dJ4_rotateRight_95 rfl hq)
    · rw [if_neg c63] at h
      refine hw_1 (fun k => x_acmp_ne (tgt := 77) dJ4_rotateRight_63 (by decide) hc63_1 (fun z => absurd z c63) (fun _ => k)) ?_
      refine hw_1 (fun k => x_aload_n dJ4_rotateRight_66 rfl k) ?_
      refine hw_1 (fun k => x_getf (v := D37 x1 4) dJ4_rotateRight_67 fl_J4_124 (h_kx hE37 hc34_0 (by decide)) rfl k) ?_
      refine hw_1 (fun k => x_aload_n dJ4_rotateRight_70 rfl k) ?_
      replace h := ga_let_some h; obtain ⟨D71, eD71, h⟩ := h
      refine hw_set eD71 (Int.le_trans (by decide) (hkge_76 hc59_0)) (by decide) (fun k => x_putf dJ4_rotateRight_71 fl_J4_114 rfl hc59_0 (hkge_76 hc59_0) trivial k) ?_
      have hP71 : h_P D71 := hP37.set eD71 (hkge_76 hc59_0) (by decide) (hPn hc59_0 rfl)
      have hE71 : h_E D37 D71 := h_E_set eD71 (by decide)
      refine hw_1 (fun k => x_goto (tgt := 85) dJ4_rotateRight_74 (by decide) k) ?_
      refine hw_1 (fun k => x_aload_n dJ4_rotateRight_85 rfl k) ?_
      refine hw_1 (fun k => x_aload_n dJ4_rotateRight_86 rfl k) ?_
      replace h := ga_let_some h; obtain ⟨D87, eD87, h⟩ := h
      refine hw_set eD87 (Int.le_trans (by decide) (hkge_76 (h_kx hE71 (h_kx hE37 hc37_1 (by decide)) (by decide)))) (by decide) (fun k => x_putf dJ4_rotateRight_87 fl_J4_114 rfl (h_kx hE71 (h_kx hE37 hc37_1 (by decide)) (by decide)) (hkge_76 (h_kx hE71 (h_kx hE37 hc37_1 (by decide)) (by decide))) trivial k) ?_
      have hP87 : h_P D87 := hP71.set eD87 (hkge_76 (h_kx hE71 (h_kx hE37 hc37_1 (by decide)) (by decide))) (by decide) (hPn (h_kx hE71 (h_kx hE37 hc37_1 (by decide)) (by decide)) rfl)
      have hE87 : h_E D71 D87 := h_E_set eD87 (by decide)
      refine hw_1 (fun k => x_aload_n dJ4_rotateRight_90 rfl k) ?_
      refine hw_1 (fun k => x_aload_n dJ4_rotateRight_91 rfl k) ?_
      replace h := ga_let_some h; obtain ⟨D92, eD92, h⟩ := h
      refine hw_set eD92 (Int.le_trans (by decide) (hkge_76 (h_kx hE87 (h_kx hE71 (h_kx hE37 hc34_0 (by decide)) (by decide)) (by decide)))) (by decide) (fun k => x_putf dJ4_rotateRight_92 fl_J4_124 rfl (h_kx hE87 (h_kx hE71 (h_kx hE37 hc34_0 (by decide)) (by decide)) (by decide)) (hkge_76 (h_kx hE87 (h_kx hE71 (h_kx hE37 hc34_0 (by decide)) (by decide)) (by decide))) trivial k) ?_
      have hP92 : h_P D92 := hP87.set eD92 (hkge_76 (h_kx hE87 (h_kx hE71 (h_kx hE37 hc34_0 (by decide)) (by decide)) (by decide))) (by decide) (hPn (h_kx hE87 (h_kx hE71 (h_kx hE37 hc34_0 (by decide)) (by decide)) (by decide)) rfl)
      have hE92 : h_E D87 D92 := h_E_set eD92 (by decide)
      obtain ⟨rfl, rfl⟩ := ga_end h
      exact hw_ret hP92 (x_vret dJ4_rotateRight_95 rfl hq)
  · rw [if_neg c44] at h
    refine hw_1 (fun k => x_ifnonnull (tgt := 55) dJ4_rotateRight_44 (by decide) (fun z => absurd z c44) (fun _ => k)) ?_
    refine hw_1 (fun k => x_aload_n dJ4_rotateRight_47 rfl k) ?_
    refine hw_1 (fun k => x_aload_n dJ4_rotateRight_48 rfl k) ?_
    replace h := ga_ck_some h; obtain ⟨hc49_0, h⟩ := h
    replace h := ga_let_some h; obtain ⟨D49, eD49, h⟩ := h
    refine hw_set eD49 (Int.le_trans (by decide) (hkge_61 hc49_0)) (by decide) (fun k => x_putf dJ4_rotateRight_49 fl_J4_101 rfl hc49_0 (hkge_61 hc49_0) trivial k) ?_
    have hP49 : h_P D49 := hP37.set eD49 (hkge_61 hc49_0) (by decide) (hPn hc49_0 rfl)
    have hE49 : h_E D37 D49 := h_E_set eD49 (by decide)
    refine hw_1 (fun k => x_goto (tgt := 85) dJ4_rotateRight_52 (by decide) k) ?_
    refine hw_1 (fun k => x_aload_n dJ4_rotateRight_85 rfl k) ?_
    refine hw_1 (fun k => x_aload_n dJ4_rotateRight_86 rfl k) ?_
    replace h := ga_let_some h; obtain ⟨D87, eD87, h⟩ := h
    refine hw_set eD87 (Int.le_trans (by decide) (hkge_76 (h_kx hE49 (h_kx hE37 hc37_1 (by decide)) (by decide)))) (by decide) (fun k => x_putf dJ4_rotateRight_87 fl_J4_114 rfl (h_kx hE49 (h_kx hE37 hc37_1 (by decide)) (by decide)) (hkge_76 (h_kx hE49 (h_kx hE37 hc37_1 (by decide)) (by decide))) trivial k) ?_
    have hP87 : h_P D87 := hP49.set eD87 (hkge_76 (h_kx hE49 (h_kx hE37 hc37_1 (by decide)) (by decide))) (by decide) (hPn (h_kx hE49 (h_kx hE37 hc37_1 (by decide)) (by decide)) rfl)
    have hE87 : h_E D49 D87 := h_E_set eD87 (by decide)
    refine hw_1 (fun k => x_aload_n dJ4_rotateRight_90 rfl k) ?_
    refine hw_1 (fun k => x_aload_n dJ4_rotateRight_91 rfl k) ?_
    replace h := ga_let_some h; obtain ⟨D92, eD92, h⟩ := h
    refine hw_set eD92 (Int.le_trans (by decide) (hkge_76 (h_kx hE87 (h_kx hE49 (h_kx hE37 hc34_0 (by decide)) (by decide)) (by decide)))) (by decide) (fun k => x_putf dJ4_rotateRight_92 fl_J4_124 rfl (h_kx hE87 (h_kx hE49 (h_kx hE37 hc34_0 (by decide)) (by decide)) (by decide)) (hkge_76 (h_kx hE87 (h_kx hE49 (h_kx hE37 hc34_0 (by decide)) (by decide)) (by decide))) trivial k) ?_
    have hP92 : h_P D92 := hP87.set eD92 (hkge_76 (h_kx hE87 (h_kx hE49 (h_kx hE37 hc34_0 (by decide)) (by decide)) (by decide))) (by decide) (hPn (h_kx hE87 (h_kx hE49 (h_kx hE37 hc34_0 (by decide)) (by decide)) (by decide)) rfl)
    have hE92 : h_E D87 D92 := h_E_set eD92 (by decide)
    obtain ⟨rfl, rfl⟩ := ga_end h
    exact hw_ret hP92 (x_vret dJ4_rotateRight_95 rfl hq)
theorem h_J4_rotateRight_ok {G : aw_G} {D D' : ga_D} {r : Int} {x0 x1 : Int} (hP : h_P D) (h : h_J4_rotateRight x0 x1 D = some (r, D')) : aw_HR yJ4_rotateRight cJ4_rotateRight 3 none 0 G [(2, x0), (2, x1)] D none D' := by
  unfold h_J4_rotateRight at h
  refine hw_body (own := "java/util/TreeMap") (ini := false) (ls := [(0, (2, x0)), (1, (2, x1))]) rfl rfl (fun h => by cases h) (Nat.le_of_ble_eq_true rfl) rfl fun Q hq => ?_
  refine hw_1 (fun k => x_aload_n dJ4_rotateRight_0 rfl k) ?_
  by_cases c1 : x1 = 0
  · rw [if_pos c1] at h
    refine hw_1 (fun k => x_ifnull (tgt := 95) dJ4_rotateRight_1 (by decide) (fun _ => k) (fun z => absurd c1 z)) ?_
    obtain ⟨rfl, rfl⟩ := ga_end h
    exact hw_ret hP (x_vret dJ4_rotateRight_95 rfl hq)
  · rw [if_neg c1] at h
    refine hw_1 (fun k => x_ifnull (tgt := 95) dJ4_rotateRight_1 (by decide) (fun z => absurd z c1) (fun _ => k)) ?_
    refine hw_1 (fun k => x_aload_n dJ4_rotateRight_4 rfl k) ?_
    replace h := ga_ck_some h; obtain ⟨hc5_0, h⟩ := h
    refine hw_1 (fun k => x_getf (v := D x1 2) dJ4_rotateRight_5 fl_J4_111 hc5_0 rfl k) ?_
    replace h := ga_let_some h; obtain ⟨v8, ev8, h⟩ := h
    refine hw_nm ev8 ?_
    refine hw_1 (fun k => x_astore_n (ls' := [(2, (2, v8)), (0, (2, x0)), (1, (2, x1))]) dJ4_rotateRight_8 (by decide) rfl k) ?_
    refine hw_1 (fun k => x_aload_n dJ4_rotateRight_9 rfl k) ?_
    refine hw_1 (fun k => x_aload_n dJ4_rotateRight_10 rfl k) ?_
    replace h := ga_ck_some h; obtain ⟨hc11_1, h⟩ := h
    refine hw_1 (fun k => x_getf (v := D v8 3) dJ4_rotateRight_11 fl_J4_114 hc11_1 rfl k) ?_
    replace h := ga_let_some h; obtain ⟨D14, eD14, h⟩ := h
    refine hw_set eD14 (Int.le_trans (by decide) (hkge_76 hc5_0)) (by decide) (fun k => x_putf dJ4_rotateRight_14 fl_J4_111 rfl hc5_0 (hkge_76 hc5_0) trivial k) ?_
    have hP14 : h_P D14 := hP.set eD14 (hkge_76 hc5_0) (by decide) (hPn hc5_0 rfl)
    have hE14 : h_E D D14 := h_E_set eD14 (by decide)
    refine hw_1 (fun k => x_aload_n dJ4_rotateRight_17 rfl k) ?_
    refine hw_1 (fun k => x_getf (v := D14 v8 3) dJ4_rotateRight_18 fl_J4_114 (h_kx hE14 hc11_1 (by decide)) rfl k) ?_
    by_cases c21 : D14 v8 3 = 0
    · rw [if_pos c21] at h
      refine hw_1 (fun k => x_ifnull (tgt := 32) dJ4_rotateRight_21 (by decide) (fun _ => k) (fun z => absurd c21 z)) ?_
      refine hw_locs [1, 2, 0] (ls' := [(0, (2, x0)), (1, (2, x1)), (2, (2, v8))]) rfl ?_
      refine h_J4_rotateRight_j32_ok hq hP14 h
    · rw [if_neg c21] at h
      refine hw_1 (fun k => x_ifnull (tgt := 32) dJ4_rotateRight_21 (by decide) (fun z => absurd z c21) (fun _ => k)) ?_
      refine hw_1 (fun k => x_aload_n dJ4_rotateRight_24 rfl k) ?_
      refine hw_1 (fun k => x_getf (v := D14 v8 3) dJ4_rotateRight_25 fl_J4_114 (h_kx hE14 hc11_1 (by decide)) rfl k) ?_
      refine hw_1 (fun k => x_aload_n dJ4_rotateRight_28 rfl k) ?_
      replace h := ga_ck_some h; obtain ⟨hc29_0, h⟩ := h
      replace h := ga_let_some h; obtain ⟨D29, eD29, h⟩ := h
      refine hw_set eD29 (Int.le_trans (by decide) (hkge_76 hc29_0)) (by decide) (fun k => x_putf dJ4_rotateRight_29 fl_J4_124 rfl hc29_0 (hkge_76 hc29_0) trivial k) ?_
      have hP29 : h_P D29 := hP14.set eD29 (hkge_76 hc29_0) (by decide) (hPn hc29_0 rfl)
      have hE29 : h_E D14 D29 := h_E_set eD29 (by decide)
      refine hw_locs [1, 2, 0] (ls' := [(0, (2, x0)), (1, (2, x1)), (2, (2, v8))]) rfl ?_
      refine h_J4_rotateRight_j32_ok hq hP29 h
theorem h_J4_fixAfterInsertion_j225_ok {G : aw_G} {M0 : aw_M} {D' : ga_D} {Q : Option aw_V → aw_M → Prop} {r : Int} (hq : Q none (hM D')) {k5 : Int → Int → ga_D → ga_S} (hk5 : ∀ (x0 x1 : Int) (D : ga_D), h_P D → k5 x0 x1 D = some (r, D') → aw_HW G "java/util/TreeMap" cJ4_fixAfterInsertion none 3 1 false M0 Q aw_no D' (hn D') (hsl D') 5 [(0, (2, x0)), (1, (2, x1))] [] D) {x0 x1 : Int} {D : ga_D} (hP : h_P D) (h : h_J4_fixAfterInsertion_j225 x0 x1 D k5 = some (r, D')) : aw_HW G "java/util/TreeMap" cJ4_fixAfterInsertion none 3 1 false M0 Q aw_no D' (hn D') (hsl D') 225 [(0, (2, x0)), (1, (2, x1))] [] D := by
  unfold h_J4_fixAfterInsertion_j225 at h
  refine hw_1 (fun k => x_aload_n dJ4_fixAfterInsertion_225 rfl k) ?_
  replace h := ga_bind_some h; obtain ⟨r226, D226, g226, h⟩ := h
  have hR226 := (h_J4_parentOf_ok (G := G) hP g226)
  obtain ⟨hP226, hE226, -⟩ := id hR226
  refine hw_call (rest := []) hR226 (fun hc hk9 => x_callS (as := [(2, x1)]) (rest := []) dJ4_fixAfterInsertion_226 hc (lw_S q4291 q4292 q403 q4293) (show _ ∧ _ ∧ _ = some 1 from by decide +kernel) (by decide) (by decide) rfl (Nat.le_of_ble_eq_true rfl) hk9 aw_nox) ?_
  refine hw_1 (fun k => x_iconst dJ4_fixAfterInsertion_229 (by decide) k) ?_
  replace h := ga_bind_some h; obtain ⟨r230, D230, g230, h⟩ := h
  have hR230 := (h_J4_setColor_ok (G := G) hP226 g230)
  obtain ⟨hP230, hE230, -⟩ := id hR230
  refine hw_call (rest := []) hR230 (fun hc hk9 => x_callS (as := [(2, r226), (0, 1)]) (rest := []) dJ4_fixAfterInsertion_230 hc (lw_S q4303 q4304 q403 q4305) (show _ ∧ _ ∧ _ = some 2 from by decide +kernel) (by decide) (by decide) rfl (Nat.le_of_ble_eq_true rfl) hk9 aw_nox) ?_
  refine hw_1 (fun k => x_aload_n dJ4_fixAfterInsertion_233 rfl k) ?_
  replace h := ga_bind_some h; obtain ⟨r234, D234, g234, h⟩ := h
  have hR234 := (h_J4_parentOf_ok (G := G) hP230 g234)
  obtain ⟨hP234, hE234, -⟩ := id hR234
  refine hw_call (rest := []) hR234 (fun hc hk9 => x_callS (as := [(2, x1)]) (rest := []) dJ4_fixAfterInsertion_234 hc (lw_S q4291 q4292 q403 q4293) (show _ ∧ _ ∧ _ = some 1 from by decide +kernel) (by decide) (by decide) rfl (Nat.le_of_ble_eq_true rfl) hk9 aw_nox) ?_
  replace h := ga_bind_some h; obtain ⟨r237, D237, g237, h⟩ := h
  have hR237 := (h_J4_parentOf_ok (G := G) hP234 g237)
  obtain ⟨hP237, hE237, -⟩ := id hR237
  refine hw_call (rest := []) hR237 (fun hc hk9 => x_callS (as := [(2, r234)]) (rest := []) dJ4_fixAfterInsertion_237 hc (lw_S q4291 q4292 q403 q4293) (show _ ∧ _ ∧ _ = some 1 from by decide +kernel) (by decide) (by decide) rfl (Nat.le_of_ble_eq_true rfl) hk9 aw_nox) ?_
  refine hw_1 (fun k => x_iconst dJ4_fixAfterInsertion_240 (by decide) k) ?_
  replace h := ga_bind_some h; obtain ⟨r241, D241, g241, h⟩ := h
  have hR241 := (h_J4_setColor_ok (G := G) hP237 g241)
  obtain ⟨hP241, hE241, -⟩ := id hR241
  refine hw_call (rest := []) hR241 (fun hc hk9 => x_callS (as := [(2, r237), (0, 0)]) (rest := []) dJ4_fixAfterInsertion_241 hc (lw_S q4303 q4304 q403 q4305) (show _ ∧ _ ∧ _ = some 2 from by decide +kernel) (by decide) (by decide) rfl (Nat.le_of_ble_eq_true rfl) hk9 aw_nox) ?_
  refine hw_1 (fun k => x_aload_n dJ4_fixAfterInsertion_244 rfl k) ?_
  refine hw_1 (fun k => x_aload_n dJ4_fixAfterInsertion_245 rfl k) ?_
  replace h := ga_bind_some h; obtain ⟨r246, D246, g246, h⟩ := h
  have hR246 := (h_J4_parentOf_ok (G := G) hP241 g246)
  obtain ⟨hP246, hE246, -⟩ := id hR246
  refine hw_call (rest := [(2, x0)]) hR246 (fun hc hk9 => x_callS (as := [(2, x1)]) (rest := [(2, x0)]) dJ4_fixAfterInsertion_246 hc (lw_S q4291 q4292 q403 q4293) (show _ ∧ _ ∧ _ = some 1 from by decide +kernel) (by decide) (by decide) rfl (Nat.le_of_ble_eq_true rfl) hk9 aw_nox) ?_
  replace h := ga_bind_some h; obtain ⟨r249, D249, g249, h⟩ := h
  have hR249 := (h_J4_parentOf_ok (G := G) hP246 g249)
  obtain ⟨hP249, hE249, -⟩ := id hR249
  refine hw_call (rest := [(2, x0)]) hR249 (fun hc hk9 => x_callS (as := [(2, r246)]) (rest := [(2, x0)]) dJ4_fixAfterInsertion_249 hc (lw_S q4291 q4292 q403 q4293) (show _ ∧ _ ∧ _ = some 1 from by decide +kernel) (by decide) (by decide) rfl (Nat.le_of_ble_eq_true rfl) hk9 aw_nox) ?_
  replace h := ga_ck_some h; obtain ⟨hc252_0, h⟩ := h
  replace h := ga_bind_some h; obtain ⟨r252, D252, g252, h⟩ := h
  have hR252 := (h_J4_rotateLeft_ok (G := G) hP249 g252)
  obtain ⟨hP252, hE252, -⟩ := id hR252
  refine hw_call (rest := []) hR252 (fun hc hk9 => x_callV (as := [(2, r249)]) (rest := []) dJ4_fixAfterInsertion_252 hc (lw_V q4306 q4308 qs39 q403 q4309) hc252_0 rfl rfl (show _ ∧ _ ∧ _ ∧ _ = some 1 from by decide +kernel) (by decide) (by decide) rfl (Nat.le_of_ble_eq_true rfl) hk9 aw_nox) ?_
  refine hw_1 (fun k => x_goto (tgt := 5) dJ4_fixAfterInsertion_255 (by decide) k) ?_
  exact hk5 _ _ _ hP252 h
theorem h_J4_fixAfterInsertion_j118_ok {G : aw_G} {M0 : aw_M} {D' : ga_D} {Q : Option aw_V → aw_M → Prop} {r : Int} (hq : Q none (hM D')) {k5 : Int → Int → ga_D → ga_S} (hk5 : ∀ (x0 x1 : Int) (D : ga_D), h_P D → k5 x0 x1 D = some (r, D') → aw_HW G "java/util/TreeMap" cJ4_fixAfterInsertion none 3 1 false M0 Q aw_no D' (hn D') (hsl D') 5 [(0, (2, x0)), (1, (2, x1))] [] D) {x0 x1 : Int} {D : ga_D} (hP : h_P D) (h : h_J4_fixAfterInsertion_j118 x0 x1 D k5 = some (r, D')) : aw_HW G "java/util/TreeMap" cJ4_fixAfterInsertion none 3 1 false M0 Q aw_no D' (hn D') (hsl D') 118 [(0, (2, x0)), (1, (2, x1))] [] D := by
  unfold h_J4_fixAfterInsertion_j118 at h
  refine hw_1 (fun k => x_aload_n dJ4_fixAfterInsertion_118 rfl k) ?_
  replace h := ga_bind_some h; obtain ⟨r119, D119, g119, h⟩ := h
  have hR119 := (h_J4_parentOf_ok (G := G) hP g119)
  obtain ⟨hP119, hE119, -⟩ := id hR119
  refine hw_call (rest := []) hR119 (fun hc hk9 => x_callS (as := [(2, x1)]) (rest := []) dJ4_fixAfterInsertion_119 hc (lw_S q4291 q4292 q403 q4293) (show _ ∧ _ ∧ _ = some 1 from by decide +kernel) (by decide) (by decide) rfl (Nat.le_of_ble_eq_true rfl) hk9 aw_nox) ?_
  refine hw_1 (fun k => x_iconst dJ4_fixAfterInsertion_122 (by decide) k) ?_
  replace h := ga_bind_some h; obtain ⟨r123, D123, g123, h⟩ := h
  have hR123 := (h_J4_setColor_ok (G := G) hP119 g123)
  obtain ⟨hP123, hE123, -⟩ := id hR123
  refine hw_call (rest := []) hR123 (fun hc hk9 => x_callS (as := [(2, r119), (0, 1)]) (rest := []) dJ4_fixAfterInsertion_123 hc (lw_S q4303 q4304 q403 q4305) (show _ ∧ _ ∧ _ = some 2 from by decide +kernel) (by decide) (by decide) rfl (Nat.le_of_ble_eq_true rfl) hk9 aw_nox) ?_
  refine hw_1 (fun k => x_aload_n dJ4_fixAfterInsertion_126 rfl k) ?_
  replace h := ga_bind_some h; obtain ⟨r127, D127, g127, h⟩ := h
  have hR127 := (h_J4_parentOf_ok (G := G) hP123 g127)
  obtain ⟨hP127, hE127, -⟩ := id hR127
  refine hw_call (rest := []) hR127 (fun hc hk9 => x_callS (as := [(2, x1)]) (rest := []) dJ4_fixAfterInsertion_127 hc (lw_S q4291 q4292 q403 q4293) (show _ ∧ _ ∧ _ = some 1 from by decide +kernel) (by decide) (by decide) rfl (Nat.le_of_ble_eq_true rfl) hk9 aw_nox) ?_
  replace h := ga_bind_some h; obtain ⟨r130, D130, g130, h⟩ := h
  have hR130 := (h_J4_parentOf_ok (G := G) hP127 g130)
  obtain ⟨hP130, hE130, -⟩ := id hR130
  refine hw_call (rest := []) hR130 (fun hc hk9 => x_callS (as := [(2, r127)]) (rest := []) dJ4_fixAfterInsertion_130 hc (lw_S q4291 q4292 q403 q4293) (show _ ∧ _ ∧ _ = some 1 from by decide +kernel) (by decide) (by decide) rfl (Nat.le_of_ble_eq_true rfl) hk9 aw_nox) ?_
  refine hw_1 (fun k => x_iconst dJ4_fixAfterInsertion_133 (by decide) k) ?_
  replace h := ga_bind_some h; obtain ⟨r134, D134, g134, h⟩ := h
  have hR134 := (h_J4_setColor_ok (G := G) hP130 g134)
  obtain ⟨hP134, hE134, -⟩ := id hR134
  refine hw_call (rest := []) hR134 (fun hc hk9 => x_callS (as := [(2, r130), (0, 0)]) (rest := []) dJ4_fixAfterInsertion_134 hc (lw_S q4303 q4304 q403 q4305) (show _ ∧ _ ∧ _ = some 2 from by decide +kernel) (by decide) (by decide) rfl (Nat.le_of_ble_eq_true rfl) hk9 aw_nox) ?_
  refine hw_1 (fun k => x_aload_n dJ4_fixAfterInsertion_137 rfl k) ?_
  refine hw_1 (fun k => x_aload_n dJ4_fixAfterInsertion_138 rfl k) ?_
  replace h := ga_bind_some h; obtain ⟨r139, D139, g139, h⟩ := h
  have hR139 := (h_J4_parentOf_ok (G := G) hP134 g139)
  obtain ⟨hP139, hE139, -⟩ := id hR139
  refine hw_call (rest := [(2, x0)]) hR139 (fun hc hk9 => x_callS (as := [(2, x1)]) (rest := [(2, x0)]) dJ4_fixAfterInsertion_139 hc (lw_S q4291 q4292 q403 q4293) (show _ ∧ _ ∧ _ = some 1 from by decide +kernel) (by decide) (by decide) rfl (Nat.le_of_ble_eq_true rfl) hk9 aw_nox) ?_
  replace h := ga_bind_some h; obtain ⟨r142, D142, g142, h⟩ := h
  have hR142 := (h_J4_parentOf_ok (G := G) hP139 g142)
  obtain ⟨hP142, hE142, -⟩ := id hR142
  refine hw_call (rest := [(2, x0)]) hR142 (fun hc hk9 => x_callS (as := [(2, r139)]) (rest := [(2, x0)]) dJ4_fixAfterInsertion_142 hc (lw_S q4291 q4292 q403 q4293) (show _ ∧ _ ∧ _ = some 1 from by decide +kernel) (by decide) (by decide) rfl (Nat.le_of_ble_eq_true rfl) hk9 aw_nox) ?_
  replace h := ga_ck_some h; obtain ⟨hc145_0, h⟩ := h
  replace h := ga_bind_some h; obtain ⟨r145, D145, g145, h⟩ := h
  have hR145 := (h_J4_rotateRight_ok (G := G) hP142 g145)
  obtain ⟨hP145, hE145, -⟩ := id hR145
  refine hw_call (rest := []) hR145 (fun hc hk9 => x_callV (as := [(2, r142)]) (rest := []) dJ4_fixAfterInsertion_145 hc (lw_V q4310 q4312 qs40 q403 q4313) hc145_0 rfl rfl (show _ ∧ _ ∧ _ ∧ _ = some 1 from by decide +kernel) (by decide) (by decide) rfl (Nat.le_of_ble_eq_true rfl) hk9 aw_nox) ?_
  refine hw_1 (fun k => x_goto (tgt := 5) dJ4_fixAfterInsertion_148 (by decide) k) ?_
  exact hk5 _ _ _ hP145 h
theorem h_J4_fixAfterInsertion_l5_ok {G : aw_G} {M0 : aw_M} {D' : ga_D} {Q : Option aw_V → aw_M → Prop} {r : Int} (hq : Q none (hM D')) {k258 : Int → ga_D → ga_S} (hk258 : ∀ (x0 : Int) (D : ga_D), h_P D → k258 x0 D = some (r, D') → aw_HW G "java/util/TreeMap" cJ4_fixAfterInsertion none 3 1 false M0 Q aw_no D' (hn D') (hsl D') 258 [(0, (2, x0))] [] D) : ∀ {n : Nat} {x0 x1 : Int} {D : ga_D}, h_P D → h_J4_fixAfterInsertion_l5 n x0 x1 D k258 = some (r, D') → aw_HW G "java/util/TreeMap" cJ4_fixAfterInsertion none 3 1 false M0 Q aw_no D' (hn D') (hsl D') 5 [(0, (2, x0)), (1, (2, x1))] [] D := by
  intro n
  induction n with
  | zero => intro x0 x1 D hP h; exact absurd (h : (none : ga_S) = some (r, D')) (by intro h; cases h)
  | succ n ih =>
    intro x0 x1 D hP h
    have ih : ∀ (x0 x1 : Int) (D : ga_D), h_P D → h_J4_fixAfterInsertion_l5 n x0 x1 D k258 = some (r, D') → aw_HW G "java/util/TreeMap" cJ4_fixAfterInsertion none 3 1 false M0 Q aw_no D' (hn D') (hsl D') 5 [(0, (2, x0)), (1, (2, x1))] [] D := fun x0 x1 D hP h => ih hP h
    replace h : (if x1 = 0 then (k258 x0 D) else (ga_ck (hk D x0 = (61, 0)) (ga_ck (x1 = 0 ∨ 4096 ≤ x1 ∨ D x0 3 = 0 ∨ 4096 ≤ D x0 3 ∨ x1 = D x0 3) (if x1 = D x0 3 then (k258 x0 D) else (ga_ck (hk D x1 = (76, 0)) (ga_ck (hk D (D x1 4) = (76, 0)) (if D (D x1 4) 5 ≠ 0 then (k258 x0 D) else (ga_bind (h_J4_parentOf x1 D) (fun r28 D28 => ga_bind (h_J4_parentOf x1 D28) (fun r32 D32 => ga_bind (h_J4_parentOf r32 D32) (fun r35 D35 => ga_bind (h_J4_leftOf r35 D35) (fun r38 D38 => ga_ck (r28 = 0 ∨ 4096 ≤ r28 ∨ r38 = 0 ∨ 4096 ≤ r38 ∨ r28 = r38) (if r28 ≠ r38 then (ga_bind (h_J4_parentOf x1 D38) (fun r152 D152 => ga_bind (h_J4_parentOf r152 D152) (fun r155 D155 => ga_bind (h_J4_leftOf r155 D155) (fun r158 D158 => ga_bind (h_J4_colorOf r158 D158) (fun r163 D163 => if r163 ≠ 0 then (ga_bind (h_J4_parentOf x1 D163) (fun r206 D206 => ga_bind (h_J4_leftOf r206 D206) (fun r209 D209 => ga_ck (x1 = 0 ∨ 4096 ≤ x1 ∨ r209 = 0 ∨ 4096 ≤ r209 ∨ x1 = r209) (if x1 ≠ r209 then (h_J4_fixAfterInsertion_j225 x0 x1 D209 (fun x0 x1 D5 => h_J4_fixAfterInsertion_l5 n x0 x1 D5 k258)) else (ga_bind (h_J4_parentOf x1 D209) (fun r216 D216 => ga_bind (h_J4_rotateRight x0 r216 D216) (fun r222 D222 => h_J4_fixAfterInsertion_j225 x0 r216 D222 (fun x0 x1 D5 => h_J4_fixAfterInsertion_l5 n x0 x1 D5 k258)))))))) else (ga_bind (h_J4_parentOf x1 D163) (fun r170 D170 => ga_bind (h_J4_setColor r170 1 D170) (fun r174 D174 => ga_bind (h_J4_setColor r158 1 D174) (fun r179 D179 => ga_bind (h_J4_parentOf x1 D179) (fun r183 D183 => ga_bind (h_J4_parentOf r183 D183) (fun r186 D186 => ga_bind (h_J4_setColor r186 0 D186) (fun r190 D190 => ga_bind (h_J4_parentOf x1 D190) (fun r194 D194 => ga_bind (h_J4_parentOf r194 D194) (fun r197 D197 => h_J4_fixAfterInsertion_l5 n x0 r197 D197 k258)))))))))))))) else (ga_bind (h_J4_parentOf x1 D38) (fun r45 D45 => ga_bind (h_J4_parentOf r45 D45) (fun r48 D48 => ga_bind (h_J4_rightOf r48 D48) (fun r51 D51 => ga_bind (h_J4_colorOf r51 D51) (fun r56 D56 => if r56 ≠ 0 then (ga_bind (h_J4_parentOf x1 D56) (fun r99 D99 => ga_bind (h_J4_rightOf r99 D99) (fun r102 D102 => ga_ck (x1 = 0 ∨ 4096 ≤ x1 ∨ r102 = 0 ∨ 4096 ≤ r102 ∨ x1 = r102) (if x1 ≠ r102 then (h_J4_fixAfterInsertion_j118 x0 x1 D102 (fun x0 x1 D5 => h_J4_fixAfterInsertion_l5 n x0 x1 D5 k258)) else (ga_bind (h_J4_parentOf x1 D102) (fun r109 D109 => ga_bind (h_J4_rotateLeft x0 r109 D109) (fun r115 D115 => h_J4_fixAfterInsertion_j118 x0 r109 D115 (fun x0 x1 D5 => h_J4_fixAfterInsertion_l5 n x0 x1 D5 k258)))))))) else (ga_bind (h_J4_parentOf x1 D56) (fun r63 D63 => ga_bind (h_J4_setColor r63 1 D63) (fun r67 D67 => ga_bind (h_J4_setColor r51 1 D67) (fun r72 D72 => ga_bind (h_J4_parentOf x1 D72) (fun r76 D76 => ga_bind (h_J4_parentOf r76 D76) (fun r79 D79 => ga_bind (h_J4_setColor r79 0 D79) (fun r83 D83 => ga_bind (h_J4_parentOf x1 D83) (fun r87 D87 => ga_bind (h_J4_parentOf r87 D87) (fun r90 D90 => h_J4_fixAfterInsertion_l5 n x0 r90 D90 k258)))))))))))))))))))))))))) : ga_S) = some (r, D') := h
    refine hw_1 (fun k => x_aload_n dJ4_fixAfterInsertion_5 rfl k) ?_
    by_cases c6 : x1 = 0
    · rw [if_pos c6] at h
      refine hw_1 (fun k => x_ifnull (tgt := 258) dJ4_fixAfterInsertion_6 (by decide) (fun _ => k) (fun z => absurd c6 z)) ?_
      refine hw_locs [0] (ls' := [(0, (2, x0))]) rfl ?_
      exact hk258 _ _ hP h
    · rw [if_neg c6] at h
      refine hw_1 (fun k => x_ifnull (tgt := 258) dJ4_fixAfterInsertion_6 (by decide) (fun z => absurd z c6) (fun _ => k)) ?_
      refine hw_1 (fun k => x_aload_n dJ4_fixAfterInsertion_9 rfl k) ?_
      refine hw_1 (fun k => x_aload_n dJ4_fixAfterInsertion_10 rfl k) ?_
      replace h := ga_ck_some h; obtain ⟨hc11_0, h⟩ := h
      refine hw_1 (fun k => x_getf (v := D x0 3) dJ4_fixAfterInsertion_11 fl_J4_101 hc11_0 rfl k) ?_
      replace h := ga_ck_some h; obtain ⟨hc14_1, h⟩ := h
      by_cases c14 : x1 = D x0 3
      · rw [if_pos c14] at h
        refine hw_1 (fun k => x_acmp_eq (tgt := 258) dJ4_fixAfterInsertion_14 (by decide) hc14_1 (fun _ => k) (fun z => absurd c14 z)) ?_
        refine hw_locs [0] (ls' := [(0, (2, x0))]) rfl ?_
        exact hk258 _ _ hP h
      · rw [if_neg c14] at h
        refine hw_1 (fun k => x_acmp_eq (tgt := 258) dJ4_fixAfterInsertion_14 (by decide) hc14_1 (fun z => absurd z c14) (fun _ => k)) ?_
        refine hw_1 (fun k => x_aload_n dJ4_fixAfterInsertion_17 rfl k) ?_
        replace h := ga_ck_some h; obtain ⟨hc18_0, h⟩ := h
        refine hw_1 (fun k => x_getf (v := D x1 4) dJ4_fixAfterInsertion_18 fl_J4_124 hc18_0 rfl k) ?_
        replace h := ga_ck_some h; obtain ⟨hc21_1, h⟩ := h
        refine hw_1 (fun k => x_getf (v := D (D x1 4) 5) dJ4_fixAfterInsertion_21 fl_J4_290 hc21_1 rfl k) ?_
        by_cases c24 : D (D x1 4) 5 ≠ 0
        · rw [if_pos c24] at h
          refine hw_1 (fun k => x_if_ne (tgt := 258) dJ4_fixAfterInsertion_24 (by decide) (fun _ => k) (fun z => absurd c24 z)) ?_
          refine hw_locs [0] (ls' := [(0, (2, x0))]) rfl ?_
          exact hk258 _ _ hP h
        · rw [if_neg c24] at h
          refine hw_1 (fun k => x_if_ne (tgt := 258) dJ4_fixAfterInsertion_24 (by decide) (fun z => absurd z c24) (fun _ => k)) ?_
          refine hw_1 (fun k => x_aload_n dJ4_fixAfterInsertion_27 rfl k) ?_
          replace h := ga_bind_some h; obtain ⟨r28, D28, g28, h⟩ := h
          have hR28 := (h_J4_parentOf_ok (G := G) hP g28)
          obtain ⟨hP28, hE28, -⟩ := id hR28
          refine hw_call (rest := []) hR28 (fun hc hk9 => x_callS (as := [(2, x1)]) (rest := []) dJ4_fixAfterInsertion_28 hc (lw_S q4291 q4292 q403 q4293) (show _ ∧ _ ∧ _ = some 1 from by decide +kernel) (by decide) (by decide) rfl (Nat.le_of_ble_eq_true rfl) hk9 aw_nox) ?_
          refine hw_1 (fun k => x_aload_n dJ4_fixAfterInsertion_31 rfl k) ?_
          replace h := ga_bind_some h; obtain ⟨r32, D32, g32, h⟩ := h
          have hR32 := (h_J4_parentOf_ok (G := G) hP28 g32)
          obtain ⟨hP32, hE32, -⟩ := id hR32
          refine hw_call (rest := [(2, r28)]) hR32 (fun hc hk9 => x_callS (as := [(2, x1)]) (rest := [(2, r28)]) dJ4_fixAfterInsertion_32 hc (lw_S q4291 q4292 q403 q4293) (show _ ∧ _ ∧ _ = some 1 from by decide +kernel) (by decide) (by decide) rfl (Nat.le_of_ble_eq_true rfl) hk9 aw_nox) ?_
          replace h := ga_bind_some h; obtain ⟨r35, D35, g35, h⟩ := h
          have hR35 := (h_J4_parentOf_ok (G := G) hP32 g35)
          obtain ⟨hP35, hE35, -⟩ := id hR35
          refine hw_call (rest := [(2, r28)]) hR35 (fun hc hk9 => x_callS (as := [(2, r32)]) (rest := [(2, r28)]) dJ4_fixAfterInsertion_35 hc (lw_S q4291 q4292 q403 q4293) (show _ ∧ _ ∧ _ = some 1 from by decide +kernel) (by decide) (by decide) rfl (Nat.le_of_ble_eq_true rfl) hk9 aw_nox) ?_
          replace h := ga_bind_some h; obtain ⟨r38, D38, g38, h⟩ := h
          have hR38 := (h_J4_leftOf_ok (G := G) hP35 g38)
          obtain ⟨hP38, hE38, -⟩ := id hR38
          refine hw_call (rest := [(2, r28)]) hR38 (fun hc hk9 => x_callS (as := [(2, r35)]) (rest := [(2, r28)]) dJ4_fixAfterInsertion_38 hc (lw_S q4294 q4295 q403 q4296) (show _ ∧ _ ∧ _ = some 1 from by decide +kernel) (by decide) (by decide) rfl (Nat.le_of_ble_eq_true rfl) hk9 aw_nox) ?_
          replace h := ga_ck_some h; obtain ⟨hc41_0, h⟩ := h
          by_cases c41 : r28 ≠ r38
          · rw [if_pos c41] at h
            refine hw_1 (fun k => x_acmp_ne (tgt := 151) dJ4_fixAfterInsertion_41 (by decide) hc41_0 (fun _ => k) (fun z => absurd c41 z)) ?_
            refine hw_1 (fun k => x_aload_n dJ4_fixAfterInsertion_151 rfl k) ?_
            replace h := ga_bind_some h; obtain ⟨r152, D152, g152, h⟩ := h
            have hR152 := (h_J4_parentOf_ok (G := G) hP38 g152)
            obtain ⟨hP152, hE152, -⟩ := id hR152
            refine hw_call (rest := []) hR152 (fun hc hk9 => x_callS (as := [(2, x1)]) (rest := []) dJ4_fixAfterInsertion_152 hc (lw_S q4291 q4292 q403 q4293) (show _ ∧ _ ∧ _ = some 1 from by decide +kernel) (by decide) (by decide) rfl (Nat.le_of_ble_eq_true rfl) hk9 aw_nox) ?_
            replace h := ga_bind_some h; obtain ⟨r155, D155, g155, h⟩ := h
            have hR155 := (h_J4_parentOf_ok (G := G) hP152 g155)
            obtain ⟨hP155, hE155, -⟩ := id hR155
            refine hw_call (rest := []) hR155 (fun hc hk9 => x_callS (as := [(2, r152)]) (rest := []) dJ4_fixAfterInsertion_155 hc (lw_S q4291 q4292 q403 q4293) (show _ ∧ _ ∧ _ = some 1 from by decide +kernel) (by decide) (by decide) rfl (Nat.le_of_ble_eq_true rfl) hk9 aw_nox) ?_
            replace h := ga_bind_some h; obtain ⟨r158, D158, g158, h⟩ := h
            have hR158 := (h_J4_leftOf_ok (G := G) hP155 g158)
            obtain ⟨hP158, hE158, -⟩ := id hR158
            refine hw_call (rest := []) hR158 (fun hc hk9 => x_callS (as := [(2, r155)]) (rest := []) dJ4_fixAfterInsertion_158 hc (lw_S q4294 q4295 q403 q4296) (show _ ∧ _ ∧ _ = some 1 from by decide +kernel) (by decide) (by decide) rfl (Nat.le_of_ble_eq_true rfl) hk9 aw_nox) ?_
            refine hw_1 (fun k => x_astore_n (ls' := [(2, (2, r158)), (0, (2, x0)), (1, (2, x1))]) dJ4_fixAfterInsertion_161 (by decide) rfl k) ?_
            refine hw_1 (fun k => x_aload_n dJ4_fixAfterInsertion_162 rfl k) ?_
            replace h := ga_bind_some h; obtain ⟨r163, D163, g163, h⟩ := h
            have hR163 := (h_J4_colorOf_ok (G := G) hP158 g163)
            obtain ⟨hP163, hE163, -⟩ := id hR163
            refine hw_call (rest := []) hR163 (fun hc hk9 => x_callS (as := [(2, r158)]) (rest := []) dJ4_fixAfterInsertion_163 hc (lw_S q4300 q4301 q403 q4302) (show _ ∧ _ ∧ _ = some 1 from by decide +kernel) (by decide) (by decide) rfl (Nat.le_of_ble_eq_true rfl) hk9 aw_nox) ?_
            by_cases c166 : r163 ≠ 0
            · rw [if_pos c166] at h
              refine hw_1 (fun k => x_if_ne (tgt := 204) dJ4_fixAfterInsertion_166 (by decide) (fun _ => k) (fun z => absurd c166 z)) ?_
              refine hw_1 (fun k => x_aload_n dJ4_fixAfterInsertion_204 rfl k) ?_
              refine hw_1 (fun k => x_aload_n dJ4_fixAfterInsertion_205 rfl k) ?_
              replace h := ga_bind_some h; obtain ⟨r206, D206, g206, h⟩ := h
              have hR206 := (h_J4_parentOf_ok (G := G) hP163 g206)
              obtain ⟨hP206, hE206, -⟩ := id hR206
              refine hw_call (rest := [(2, x1)]) hR206 (fun hc hk9 => x_callS (as := [(2, x1)]) (rest := [(2, x1)]) dJ4_fixAfterInsertion_206 hc (lw_S q4291 q4292 q403 q4293) (show _ ∧ _ ∧ _ = some 1 from by decide +kernel) (by decide) (by decide) rfl (Nat.le_of_ble_eq_true rfl) hk9 aw_nox) ?_
              replace h := ga_bind_some h; obtain ⟨r209, D209, g209, h⟩ := h
              have hR209 := (h_J4_leftOf_ok (G := G) hP206 g209)
              obtain ⟨hP209, hE209, -⟩ := id hR209
              refine hw_call (rest := [(2, x1)]) hR209 (fun hc hk9 => x_callS (as := [(2, r206)]) (rest := [(2, x1)]) dJ4_fixAfterInsertion_209 hc (lw_S q4294 q4295 q403 q4296) (show _ ∧ _ ∧ _ = some 1 from by decide +kernel) (by decide) (by decide) rfl (Nat.le_of_ble_eq_true rfl) hk9 aw_nox) ?_
              replace h := ga_ck_some h; obtain ⟨hc212_0, h⟩ := h
              by_cases c212 : x1 ≠ r209
              · rw [if_pos c212] at h
                refine hw_1 (fun k => x_acmp_ne (tgt := 225) dJ4_fixAfterInsertion_212 (by decide) hc212_0 (fun _ => k) (fun z => absurd c212 z)) ?_
                refine hw_locs [1, 2] (ls' := [(0, (2, x0)), (1, (2, x1))]) rfl ?_
                refine h_J4_fixAfterInsertion_j225_ok hq (fun x0 x1 D5 hP h => ?_) hP209 h
                · exact ih _ _ _ hP h
              · rw [if_neg c212] at h
                refine hw_1 (fun k => x_acmp_ne (tgt := 225) dJ4_fixAfterInsertion_212 (by decide) hc212_0 (fun z => absurd z c212) (fun _ => k)) ?_
                refine hw_1 (fun k => x_aload_n dJ4_fixAfterInsertion_215 rfl k) ?_
                replace h := ga_bind_some h; obtain ⟨r216, D216, g216, h⟩ := h
                have hR216 := (h_J4_parentOf_ok (G := G) hP209 g216)
                obtain ⟨hP216, hE216, -⟩ := id hR216
                refine hw_call (rest := []) hR216 (fun hc hk9 => x_callS (as := [(2, x1)]) (rest := []) dJ4_fixAfterInsertion_216 hc (lw_S q4291 q4292 q403 q4293) (show _ ∧ _ ∧ _ = some 1 from by decide +kernel) (by decide) (by decide) rfl (Nat.le_of_ble_eq_true rfl) hk9 aw_nox) ?_
                refine hw_1 (fun k => x_astore_n (ls' := [(1, (2, r216)), (2, (2, r158)), (0, (2, x0))]) dJ4_fixAfterInsertion_219 (by decide) rfl k) ?_
                refine hw_1 (fun k => x_aload_n dJ4_fixAfterInsertion_220 rfl k) ?_
                refine hw_1 (fun k => x_aload_n dJ4_fixAfterInsertion_221 rfl k) ?_
                replace h := ga_bind_some h; obtain ⟨r222, D222, g222, h⟩ := h
                have hR222 := (h_J4_rotateRight_ok (G := G) hP216 g222)
                obtain ⟨hP222, hE222, -⟩ := id hR222
                refine hw_call (rest := []) hR222 (fun hc hk9 => x_callV (as := [(2, r216)]) (rest := []) dJ4_fixAfterInsertion_222 hc (lw_V q4310 q4312 qs40 q403 q4313) (h_kx hE216 (h_kx hE209 (h_kx hE206 (h_kx hE163 (h_kx hE158 (h_kx hE155 (h_kx hE152 (h_kx hE38 (h_kx hE35 (h_kx hE32 (h_kx hE28 hc11_0 (by decide)) (by decide)) (by decide)) (by decide)) (by decide)) (by decide)) (by decide)) (by decide)) (by decide)) (by decide)) (by decide)) rfl rfl (show _ ∧ _ ∧ _ ∧ _ = some 1 from by decide +kernel) (by decide) (by decide) rfl (Nat.le_of_ble_eq_true rfl) hk9 aw_nox) ?_
                refine hw_locs [2, 0] (ls' := [(0, (2, x0)), (1, (2, r216))]) rfl ?_
                refine h_J4_fixAfterInsertion_j225_ok hq (fun x0 x1 D5 hP h => ?_) hP222 h
                · exact ih _ _ _ hP h
            · rw [if_neg c166] at h
              refine hw_1 (fun k => x_if_ne (tgt := 204) dJ4_fixAfterInsertion_166 (by decide) (fun z => absurd z c166) (fun _ => k)) ?_
              refine hw_1 (fun k => x_aload_n dJ4_fixAfterInsertion_169 rfl k) ?_
              replace h := ga_bind_some h; obtain ⟨r170, D170, g170, h⟩ := h
              have hR170 := (h_J4_parentOf_ok (G := G) hP163 g170)
              obtain ⟨hP170, hE170, -⟩ := id hR170
              refine hw_call (rest := []) hR170 (fun hc hk9 => x_callS (as := [(2, x1)]) (rest := []) dJ4_fixAfterInsertion_170 hc (lw_S q4291 q4292 q403 q4293) (show _ ∧ _ ∧ _ = some 1 from by decide +kernel) (by decide) (by decide) rfl (Nat.le_of_ble_eq_true rfl) hk9 aw_nox) ?_
              refine hw_1 (fun k => x_iconst dJ4_fixAfterInsertion_173 (by decide) k) ?_
              replace h := ga_bind_some h; obtain ⟨r174, D174, g174, h⟩ := h
              have hR174 := (h_J4_setColor_ok (G := G) hP170 g174)
              obtain ⟨hP174, hE174, -⟩ := id hR174
              refine hw_call (rest := []) hR174 (fun hc hk9 => x_callS (as := [(2, r170), (0, 1)]) (rest := []) dJ4_fixAfterInsertion_174 hc (lw_S q4303 q4304 q403 q4305) (show _ ∧ _ ∧ _ = some 2 from by decide +kernel) (by decide) (by decide) rfl (Nat.le_of_ble_eq_true rfl) hk9 aw_nox) ?_
              refine hw_1 (fun k => x_aload_n dJ4_fixAfterInsertion_177 rfl k) ?_
              refine hw_1 (fun k => x_iconst dJ4_fixAfterInsertion_178 (by decide) k) ?_
              replace h := ga_bind_some h; obtain ⟨r179, D179, g179, h⟩ := h
              have hR179 := (h_J4_setColor_ok (G := G) hP174 g179)
              obtain ⟨hP179, hE179, -⟩ := id hR179
              refine hw_call (rest := []) hR179 (fun hc hk9 => x_callS (as := [(2, r158), (0, 1)]) (rest := []) dJ4_fixAfterInsertion_179 hc (lw_S q4303 q4304 q403 q4305) (show _ ∧ _ ∧ _ = some 2 from by decide +kernel) (by decide) (by decide) rfl (Nat.le_of_ble_eq_true rfl) hk9 aw_nox) ?_
              refine hw_1 (fun k => x_aload_n dJ4_fixAfterInsertion_182 rfl k) ?_
              replace h := ga_bind_some h; obtain ⟨r183, D183, g183, h⟩ := h
              have hR183 := (h_J4_parentOf_ok (G := G) hP179 g183)
              obtain ⟨hP183, hE183, -⟩ := id hR183
              refine hw_call (rest := []) hR183 (fun hc hk9 => x_callS (as := [(2, x1)]) (rest := []) dJ4_fixAfterInsertion_183 hc (lw_S q4291 q4292 q403 q4293) (show _ ∧ _ ∧ _ = some 1 from by decide +kernel) (by decide) (by decide) rfl (Nat.le_of_ble_eq_true rfl) hk9 aw_nox) ?_
              replace h := ga_bind_some h; obtain ⟨r186, D186, g186, h⟩ := h
              have hR186 := (h_J4_parentOf_ok (G := G) hP183 g186)
              obtain ⟨hP186, hE186, -⟩ := id hR186
              refine hw_call (rest := []) hR186 (fun hc hk9 => x_callS (as := [(2, r183)]) (rest := []) dJ4_fixAfterInsertion_186 hc (lw_S q4291 q4292 q403 q4293) (show _ ∧ _ ∧ _ = some 1 from by decide +kernel) (by decide) (by decide) rfl (Nat.le_of_ble_eq_true rfl) hk9 aw_nox) ?_
              refine hw_1 (fun k => x_iconst dJ4_fixAfterInsertion_189 (by decide) k) ?_
              replace h := ga_bind_some h; obtain ⟨r190, D190, g190, h⟩ := h
              have hR190 := (h_J4_setColor_ok (G := G) hP186 g190)
              obtain ⟨hP190, hE190, -⟩ := id hR190
              refine hw_call (rest := []) hR190 (fun hc hk9 => x_callS (as := [(2, r186), (0, 0)]) (rest := []) dJ4_fixAfterInsertion_190 hc (lw_S q4303 q4304 q403 q4305) (show _ ∧ _ ∧ _ = some 2 from by decide +kernel) (by decide) (by decide) rfl (Nat.le_of_ble_eq_true rfl) hk9 aw_nox) ?_
              refine hw_1 (fun k => x_aload_n dJ4_fixAfterInsertion_193 rfl k) ?_
              replace h := ga_bind_some h; obtain ⟨r194, D194, g194, h⟩ := h
              have hR194 := (h_J4_parentOf_ok (G := G) hP190 g194)
              obtain ⟨hP194, hE194, -⟩ := id hR194
              refine hw_call (rest := []) hR194 (fun hc hk9 => x_callS (as := [(2, x1)]) (rest := []) dJ4_fixAfterInsertion_194 hc (lw_S q4291 q4292 q403 q4293) (show _ ∧ _ ∧ _ = some 1 from by decide +kernel) (by decide) (by decide) rfl (Nat.le_of_ble_eq_true rfl) hk9 aw_nox) ?_
              replace h := ga_bind_some h; obtain ⟨r197, D197, g197, h⟩ := h
              have hR197 := (h_J4_parentOf_ok (G := G) hP194 g197)
              obtain ⟨hP197, hE197, -⟩ := id hR197
              refine hw_call (rest := []) hR197 (fun hc hk9 => x_callS (as := [(2, r194)]) (rest := []) dJ4_fixAfterInsertion_197 hc (lw_S q4291 q4292 q403 q4293) (show _ ∧ _ ∧ _ = some 1 from by decide +kernel) (by decide) (by decide) rfl (Nat.le_of_ble_eq_true rfl) hk9 aw_nox) ?_
              refine hw_1 (fun k => x_astore_n (ls' := [(1, (2, r197)), (2, (2, r158)), (0, (2, x0))]) dJ4_fixAfterInsertion_200 (by decide) rfl k) ?_
              refine hw_1 (fun k => x_goto (tgt := 255) dJ4_fixAfterInsertion_201 (by decide) k) ?_
              refine hw_1 (fun k => x_goto (tgt := 5) dJ4_fixAfterInsertion_255 (by decide) k) ?_
              refine hw_locs [2, 0] (ls' := [(0, (2, x0)), (1, (2, r197))]) rfl ?_
              exact ih _ _ _ hP197 h
          · rw [if_neg c41] at h
            refine hw_1 (fun k => x_acmp_ne (tgt := 151) dJ4_fixAfterInsertion_41 (by decide) hc41_0 (fun z => absurd z c41) (fun _ => k)) ?_
            refine hw_1 (fun k => x_aload_n dJ4_fixAfterInsertion_44 rfl k) ?_
            replace h := ga_bind_some h; obtain ⟨r45, D45, g45, h⟩ := h
            have hR45 := (h_J4_parentOf_ok (G := G) hP38 g45)
            obtain ⟨hP45, hE45, -⟩ := id hR45
            refine hw_call (rest := []) hR45 (fun hc hk9 => x_callS (as := [(2, x1)]) (rest := []) dJ4_fixAfterInsertion_45 hc (lw_S q4291 q4292 q403 q4293) (show _ ∧ _ ∧ _ = some 1 from by decide +kernel) (by decide) (by decide) rfl (Nat.le_of_ble_eq_true rfl) hk9 aw_nox) ?_
            replace h := ga_bind_some h; obtain ⟨r48, D48, g48, h⟩ := h
            have hR48 := (h_J4_parentOf_ok (G := G) hP45 g48)
            obtain ⟨hP48, hE48, -⟩ := id hR48
            refine hw_call (rest := []) hR48 (fun hc hk9 => x_callS (as := [(2, r45)]) (rest := []) dJ4_fixAfterInsertion_48 hc (lw_S q4291 q4292 q403 q4293) (show _ ∧ _ ∧ _ = some 1 from by decide +kernel) (by decide) (by decide) rfl (Nat.le_of_ble_eq_true rfl) hk9 aw_nox) ?_
            replace h := ga_bind_some h; obtain ⟨r51, D51, g51, h⟩ := h
            have hR51 := (h_J4_rightOf_ok (G := G) hP48 g51)
            obtain ⟨hP51, hE51, -⟩ := id hR51
            refine hw_call (rest := []) hR51 (fun hc hk9 => x_callS (as := [(2, r48)]) (rest := []) dJ4_fixAfterInsertion_51 hc (lw_S q4297 q4298 q403 q4299) (show _ ∧ _ ∧ _ = some 1 from by decide +kernel) (by decide) (by decide) rfl (Nat.le_of_ble_eq_true rfl) hk9 aw_nox) ?_
            refine hw_1 (fun k => x_astore_n (ls' := [(2, (2, r51)), (0, (2, x0)), (1, (2, x1))]) dJ4_fixAfterInsertion_54 (by decide) rfl k) ?_
            refine hw_1 (fun k => x_aload_n dJ4_fixAfterInsertion_55 rfl k) ?_
            replace h := ga_bind_some h; obtain ⟨r56, D56, g56, h⟩ := h
            have hR56 := (h_J4_colorOf_ok (G := G) hP51 g56)
            obtain ⟨hP56, hE56, -⟩ := id hR56
            refine hw_call (rest := []) hR56 (fun hc hk9 => x_callS (as := [(2, r51)]) (rest := []) dJ4_fixAfterInsertion_56 hc (lw_S q4300 q4301 q403 q4302) (show _ ∧ _ ∧ _ = some 1 from by decide +kernel) (by decide) (by decide) rfl (Nat.le_of_ble_eq_true rfl) hk9 aw_nox) ?_
            by_cases c59 : r56 ≠ 0
            · rw [if_pos c59] at h
              refine hw_1 (fun k => x_if_ne (tgt := 97) dJ4_fixAfterInsertion_59 (by decide) (fun _ => k) (fun z => absurd c59 z)) ?_
              refine hw_1 (fun k => x_aload_n dJ4_fixAfterInsertion_97 rfl k) ?_
              refine hw_1 (fun k => x_aload_n dJ4_fixAfterInsertion_98 rfl k) ?_
              replace h := ga_bind_some h; obtain ⟨r99, D99, g99, h⟩ := h
              have hR99 := (h_J4_parentOf_ok (G := G) hP56 g99)
              obtain ⟨hP99, hE99, -⟩ := id hR99
              refine hw_call (rest := [(2, x1)]) hR99 (fun hc hk9 => x_callS (as := [(2, x1)]) (rest := [(2, x1)]) dJ4_fixAfterInsertion_99 hc (lw_S q4291 q4292 q403 q4293) (show _ ∧ _ ∧ _ = some 1 from by decide +kernel) (by decide) (by decide) rfl (Nat.le_of_ble_eq_true rfl) hk9 aw_nox) ?_
              replace h := ga_bind_some h; obtain ⟨r102, D102, g102, h⟩ := h
              have hR102 := (h_J4_rightOf_ok (G := G) hP99 g102)
              obtain ⟨hP102, hE102, -⟩ := id hR102
              refine hw_call (rest := [(2, x1)]) hR102 (fun hc hk9 => x_callS (as := [(2, r99)]) (rest := [(2, x1)]) dJ4_fixAfterInsertion_102 hc (lw_S q4297 q4298 q403 q4299) (show _ ∧ _ ∧ _ = some 1 from by decide +kernel) (by decide) (by decide) rfl (Nat.le_of_ble_eq_true rfl) hk9 aw_nox) ?_
              replace h := ga_ck_some h; obtain ⟨hc105_0, h⟩ := h
              by_cases c105 : x1 ≠ r102
              · rw [if_pos c105] at h
                refine hw_1 (fun k => x_acmp_ne (tgt := 118) dJ4_fixAfterInsertion_105 (by decide) hc105_0 (fun _ => k) (fun z => absurd c105 z)) ?_
                refine hw_locs [1, 2] (ls' := [(0, (2, x0)), (1, (2, x1))]) rfl ?_
                refine h_J4_fixAfterInsertion_j118_ok hq (fun x0 x1 D5 hP h => ?_) hP102 h
                · exact ih _ _ _ hP h
              · rw [if_neg c105] at h
                refine hw_1 (fun k => x_acmp_ne (tgt := 118) dJ4_fixAfterInsertion_105 (by decide) hc105_0 (fun z => absurd z c105) (fun _ => k)) ?_
                refine hw_1 (fun k => x_aload_n dJ4_fixAfterInsertion_108 rfl k) ?_
                replace h := ga_bind_some h; obtain ⟨r109, D109, g109, h⟩ := h
                have hR109 := (h_J4_parentOf_ok (G := G) hP102 g109)
                obtain ⟨hP109, hE109, -⟩ := id hR109
                refine hw_call (rest := []) hR109 (fun hc hk9 => x_callS (as := [(2, x1)]) (rest := []) dJ4_fixAfterInsertion_109 hc (lw_S q4291 q4292 q403 q4293) (show _ ∧ _ ∧ _ = some 1 from by decide +kernel) (by decide) (by decide) rfl (Nat.le_of_ble_eq_true rfl) hk9 aw_nox) ?_
                refine hw_1 (fun k => x_astore_n (ls' := [(1, (2, r109)), (2, (2, r51)), (0, (2, x0))]) dJ4_fixAfterInsertion_112 (by decide) rfl k) ?_
                refine hw_1 (fun k => x_aload_n dJ4_fixAfterInsertion_113 rfl k) ?_
                refine hw_1 (fun k => x_aload_n dJ4_fixAfterInsertion_114 rfl k) ?_
                replace h := ga_bind_some h; obtain ⟨r115, D115, g115, h⟩ := h
                have hR115 := (h_J4_rotateLeft_ok (G := G) hP109 g115)
                obtain ⟨hP115, hE115, -⟩ := id hR115
                refine hw_call (rest := []) hR115 (fun hc hk9 => x_callV (as := [(2, r109)]) (rest := []) dJ4_fixAfterInsertion_115 hc (lw_V q4306 q4308 qs39 q403 q4309) (h_kx hE109 (h_kx hE102 (h_kx hE99 (h_kx hE56 (h_kx hE51 (h_kx hE48 (h_kx hE45 (h_kx hE38 (h_kx hE35 (h_kx hE32 (h_kx hE28 hc11_0 (by decide)) (by decide)) (by decide)) (by decide)) (by decide)) (by decide)) (by decide)) (by decide)) (by decide)) (by decide)) (by decide)) rfl rfl (show _ ∧ _ ∧ _ ∧ _ = some 1 from by decide +kernel) (by decide) (by decide) rfl (Nat.le_of_ble_eq_true rfl) hk9 aw_nox) ?_
                refine hw_locs [2, 0] (ls' := [(0, (2, x0)), (1, (2, r109))]) rfl ?_
                refine h_J4_fixAfterInsertion_j118_ok hq (fun x0 x1 D5 hP h => ?_) hP115 h
                · exact ih _ _ _ hP h
            · rw [if_neg c59] at h
              refine hw_1 (fun k => x_if_ne (tgt := 97) dJ4_fixAfterInsertion_59 (by decide) (fun z => absurd z c59) (fun _ => k)) ?_
              refine hw_1 (fun k => x_aload_n dJ4_fixAfterInsertion_62 rfl k) ?_
              replace h := ga_bind_some h; obtain ⟨r63, D63, g63, h⟩ := h
              have hR63 := (h_J4_parentOf_ok (G := G) hP56 g63)
              obtain ⟨hP63, hE63, -⟩ := id hR63
              refine hw_call (rest := []) hR63 (fun hc hk9 => x_callS (as := [(2, x1)]) (rest := []) dJ4_fixAfterInsertion_63 hc (lw_S q4291 q4292 q403 q4293) (show _ ∧ _ ∧ _ = some 1 from by decide +kernel) (by decide) (by decide) rfl (Nat.le_of_ble_eq_true rfl) hk9 aw_nox) ?_
              refine hw_1 (fun k => x_iconst dJ4_fixAfterInsertion_66 (by decide) k) ?_
              replace h := ga_bind_some h; obtain ⟨r67, D67, g67, h⟩ := h
              have hR67 := (h_J4_setColor_ok (G := G) hP63 g67)
              obtain ⟨hP67, hE67, -⟩ := id hR67
              refine hw_call (rest := []) hR67 (fun hc hk9 => x_callS (as := [(2, r63), (0, 1)]) (rest := []) dJ4_fixAfterInsertion_67 hc (lw_S q4303 q4304 q403 q4305) (show _ ∧ _ ∧ _ = some 2 from by decide +kernel) (by decide) (by decide) rfl (Nat.le_of_ble_eq_true rfl) hk9 aw_nox) ?_
              refine hw_1 (fun k => x_aload_n dJ4_fixAfterInsertion_70 rfl k) ?_
              refine hw_1 (fun k => x_iconst dJ4_fixAfterInsertion_71 (by decide) k) ?_
              replace h := ga_bind_some h; obtain ⟨r72, D72, g72, h⟩ := h
              have hR72 := (h_J4_setColor_ok (G := G) hP67 g72)
              obtain ⟨hP72, hE72, -⟩ := id hR72
              refine hw_call (rest := []) hR72 (fun hc hk9 => x_callS (as := [(2, r51), (0, 1)]) (rest := []) dJ4_fixAfterInsertion_72 hc (lw_S q4303 q4304 q403 q4305) (show _ ∧ _ ∧ _ = some 2 from by decide +kernel) (by decide) (by decide) rfl (Nat.le_of_ble_eq_true rfl) hk9 aw_nox) ?_
              refine hw_1 (fun k => x_aload_n dJ4_fixAfterInsertion_75 rfl k) ?_
              replace h := ga_bind_some h; obtain ⟨r76, D76, g76, h⟩ := h
              have hR76 := (h_J4_parentOf_ok (G := G) hP72 g76)
              obtain ⟨hP76, hE76, -⟩ := id hR76
              refine hw_call (rest := []) hR76 (fun hc hk9 => x_callS (as := [(2, x1)]) (rest := []) dJ4_fixAfterInsertion_76 hc (lw_S q4291 q4292 q403 q4293) (show _ ∧ _ ∧ _ = some 1 from by decide +kernel) (by decide) (by decide) rfl (Nat.le_of_ble_eq_true rfl) hk9 aw_nox) ?_
              replace h := ga_bind_some h; obtain ⟨r79, D79, g79, h⟩ := h
              have hR79 := (h_J4_parentOf_ok (G := G) hP76 g79)
              obtain ⟨hP79, hE79, -⟩ := id hR79
              refine hw_call (rest := []) hR79 (fun hc hk9 => x_callS (as := [(2, r76)]) (rest := []) dJ4_fixAfterInsertion_79 hc (lw_S q4291 q4292 q403 q4293) (show _ ∧ _ ∧ _ = some 1 from by decide +kernel) (by decide) (by decide) rfl (Nat.le_of_ble_eq_true rfl) hk9 aw_nox) ?_
              refine hw_1 (fun k => x_iconst dJ4_fixAfterInsertion_82 (by decide) k) ?_
              replace h := ga_bind_some h; obtain ⟨r83, D83, g83, h⟩ := h
              have hR83 := (h_J4_setColor_ok (G := G) hP79 g83)
              obtain ⟨hP83, hE83, -⟩ := id hR83
              refine hw_call (rest := []) hR83 (fun hc hk9 => x_callS (as := [(2, r79), (0, 0)]) (rest := []) dJ4_fixAfterInsertion_83 hc (lw_S q4303 q4304 q403 q4305) (show _ ∧ _ ∧ _ = some 2 from by decide +kernel) (by decide) (by decide) rfl (Nat.le_of_ble_eq_true rfl) hk9 aw_nox) ?_
              refine hw_1 (fun k => x_aload_n dJ4_fixAfterInsertion_86 rfl k) ?_
              replace h := ga_bind_some h; obtain ⟨r87, D87, g87, h⟩ := h
              have hR87 := (h_J4_parentOf_ok (G := G) hP83 g87)
              obtain ⟨hP87, hE87, -⟩ := id hR87
              refine hw_call (rest := []) hR87 (fun hc hk9 => x_callS (as := [(2, x1)]) (rest := []) dJ4_fixAfterInsertion_87 hc (lw_S q4291 q4292 q403 q4293) (show _ ∧ _ ∧ _ = some 1 from by decide +kernel) (by decide) (by decide) rfl (Nat.le_of_ble_eq_true rfl) hk9 aw_nox) ?_
              replace h := ga_bind_some h; obtain ⟨r90, D90, g90, h⟩ := h
              have hR90 := (h_J4_parentOf_ok (G := G) hP87 g90)
              obtain ⟨hP90, hE90, -⟩ := id hR90
              refine hw_call (rest := []) hR90 (fun hc hk9 => x_callS (as := [(2, r87)]) (rest := []) dJ4_fixAfterInsertion_90 hc (lw_S q4291 q4292 q403 q4293) (show _ ∧ _ ∧ _ = some 1 from by decide +kernel) (by decide) (by decide) rfl (Nat.le_of_ble_eq_true rfl) hk9 aw_nox) ?_
              refine hw_1 (fun k => x_astore_n (ls' := [(1, (2, r90)), (2, (2, r51)), (0, (2, x0))]) dJ4_fixAfterInsertion_93 (by decide) rfl k) ?_
              refine hw_1 (fun k => x_goto (tgt := 148) dJ4_fixAfterInsertion_94 (by decide) k) ?_
              refine hw_1 (fun k => x_goto (tgt := 5) dJ4_fixAfterInsertion_148 (by decide) k) ?_
              refine hw_locs [2, 0] (ls' := [(0, (2, x0)), (1, (2, r90))]) rfl ?_
              exact ih _ _ _ hP90 h
theorem h_J4_fixAfterInsertion_ok {G : aw_G} {D D' : ga_D} {r : Int} {x0 x1 : Int} (hP : h_P D) (h : h_J4_fixAfterInsertion x0 x1 D = some (r, D')) : aw_HR yJ4_fixAfterInsertion cJ4_fixAfterInsertion 3 none 1 G [(2, x0), (2, x1)] D none D' := by
  unfold h_J4_fixAfterInsertion at h
  refine hw_body (own := "java/util/TreeMap") (ini := false) (ls := [(0, (2, x0)), (1, (2, x1))]) rfl rfl (fun h => by cases h) (Nat.le_of_ble_eq_true rfl) rfl fun Q hq => ?_
  refine hw_1 (fun k => x_aload_n dJ4_fixAfterInsertion_0 rfl k) ?_
  refine hw_1 (fun k => x_iconst dJ4_fixAfterInsertion_1 (by decide) k) ?_
  replace h := ga_ck_some h; obtain ⟨hc2_0, h⟩ := h
  replace h := ga_let_some h; obtain ⟨D2, eD2, h⟩ := h
  refine hw_set eD2 (Int.le_trans (by decide) (hkge_76 hc2_0)) (by decide) (fun k => x_putf dJ4_fixAfterInsertion_2 fl_J4_290 rfl hc2_0 (hkge_76 hc2_0) (show (0 : Int) ≤ 0 ∧ (0 : Int) < 2 from by decide) k) ?_
  have hP2 : h_P D2 := hP.set eD2 (hkge_76 hc2_0) (by decide) (hPn hc2_0 rfl)
  have hE2 : h_E D D2 := h_E_set eD2 (by decide)
  refine h_J4_fixAfterInsertion_l5_ok hq (fun x0 D258 hP h => ?_) hP2 h
  · refine hw_1 (fun k => x_aload_n dJ4_fixAfterInsertion_258 rfl k) ?_
    replace h := ga_ck_some h; obtain ⟨hc259_0, h⟩ := h
    refine hw_1 (fun k => x_getf (v := D258 x0 3) dJ4_fixAfterInsertion_259 fl_J4_101 hc259_0 rfl k) ?_
    refine hw_1 (fun k => x_iconst dJ4_fixAfterInsertion_262 (by decide) k) ?_
    replace h := ga_ck_some h; obtain ⟨hc263_1, h⟩ := h
    replace h := ga_let_some h; obtain ⟨D263, eD263, h⟩ := h
    refine hw_set eD263 (Int.le_trans (by decide) (hkge_76 hc263_1)) (by decide) (fun k => x_putf dJ4_fixAfterInsertion_263 fl_J4_290 rfl hc263_1 (hkge_76 hc263_1) (show (0 : Int) ≤ 1 ∧ (1 : Int) < 2 from by decide) k) ?_
    have hP263 : h_P D263 := hP.set eD263 (hkge_76 hc263_1) (by decide) (hPn hc263_1 rfl)
    have hE263 : h_E D258 D263 := h_E_set eD263 (by decide)
    obtain ⟨rfl, rfl⟩ := ga_end h
    exact hw_ret hP263 (x_vret dJ4_fixAfterInsertion_266 rfl hq)
theorem h_J4_addEntry_j32_ok {G : aw_G} {M0 : aw_M} {D' : ga_D} {Q : Option aw_V → aw_M → Prop} {r : Int} (hq : Q none (hM D')) {x0 x5 : Int} {D : ga_D} (hP : h_P D) (h : h_J4_addEntry_j32 x0 x5 D = some (r, D')) : aw_HW G "java/util/TreeMap" cJ4_addEntry none 6 2 false M0 Q aw_no D' (hn D') (hsl D') 32 [(0, (2, x0)), (5, (2, x5))] [] D := by
  unfold h_J4_addEntry_j32 at h
  refine hw_1 (fun k => x_aload_n dJ4_addEntry_32 rfl k) ?_
  refine hw_1 (fun k => x_aload dJ4_addEntry_33 rfl k) ?_
  replace h := ga_ck_some h; obtain ⟨hc35_0, h⟩ := h
  replace h := ga_bind_some h; obtain ⟨r35, D35, g35, h⟩ := h
  have hR35 := (h_J4_fixAfterInsertion_ok (G := G) hP g35)
  obtain ⟨hP35, hE35, -⟩ := id hR35
  refine hw_call (rest := []) hR35 (fun hc hk9 => x_callV (as := [(2, x5)]) (rest := []) dJ4_addEntry_35 hc (lw_V q4287 q4289 qs38 q403 q4290) hc35_0 rfl rfl (show _ ∧ _ ∧ _ ∧ _ = some 1 from by decide +kernel) (by decide) (by decide) rfl (Nat.le_of_ble_eq_true rfl) hk9 aw_nox) ?_
  refine hw_1 (fun k => x_aload_n dJ4_addEntry_38 rfl k) ?_
  refine hw_1 (fun k => x_dup dJ4_addEntry_39 rfl k) ?_
  refine hw_1 (fun k => x_getf (v := D35 x0 4) dJ4_addEntry_40 fl_J4_7 (h_kx hE35 hc35_0 (by decide)) rfl k) ?_
  refine hw_1 (fun k => x_iconst dJ4_addEntry_43 (by decide) k) ?_
  refine hw_1 (fun k => x_iadd dJ4_addEntry_44 rfl k) ?_
  replace h := ga_let_some h; obtain ⟨D45, eD45, h⟩ := h
  refine hw_set eD45 (Int.le_trans (by decide) (hkge_61 (h_kx hE35 hc35_0 (by decide)))) (by decide) (fun k => x_putf dJ4_addEntry_45 fl_J4_7 rfl (h_kx hE35 hc35_0 (by decide)) (hkge_61 (h_kx hE35 hc35_0 (by decide))) trivial k) ?_
  have hP45 : h_P D45 := hP35.set eD45 (hkge_61 (h_kx hE35 hc35_0 (by decide))) (by decide) (hPn (h_kx hE35 hc35_0 (by decide)) rfl)
  have hE45 : h_E D35 D45 := h_E_set eD45 (by decide)
  refine hw_1 (fun k => x_aload_n dJ4_addEntry_48 rfl k) ?_
  refine hw_1 (fun k => x_dup dJ4_addEntry_49 rfl k) ?_
  refine hw_1 (fun k => x_getf (v := D45 x0 5) dJ4_addEntry_50 fl_J4_13 (h_kx hE45 (h_kx hE35 hc35_0 (by decide)) (by decide)) rfl k) ?_
  refine hw_1 (fun k => x_iconst dJ4_addEntry_53 (by decide) k) ?_
  refine hw_1 (fun k => x_iadd dJ4_addEntry_54 rfl k) ?_
  replace h := ga_let_some h; obtain ⟨D55, eD55, h⟩ := h
  refine hw_set eD55 (Int.le_trans (by decide) (hkge_61 (h_kx hE45 (h_kx hE35 hc35_0 (by decide)) (by decide)))) (by decide) (fun k => x_putf dJ4_addEntry_55 fl_J4_13 rfl (h_kx hE45 (h_kx hE35 hc35_0 (by decide)) (by decide)) (hkge_61 (h_kx hE45 (h_kx hE35 hc35_0 (by decide)) (by decide))) trivial k) ?_
  have hP55 : h_P D55 := hP45.set eD55 (hkge_61 (h_kx hE45 (h_kx hE35 hc35_0 (by decide)) (by decide))) (by decide) (hPn (h_kx hE45 (h_kx hE35 hc35_0 (by decide)) (by decide)) rfl)
  have hE55 : h_E D45 D55 := h_E_set eD55 (by decide)
  obtain ⟨rfl, rfl⟩ := ga_end h
  exact hw_ret hP55 (x_vret dJ4_addEntry_58 rfl hq)
theorem h_J4_addEntry_ok {G : aw_G} {D D' : ga_D} {r : Int} {x0 x1 x2 x3 x4 : Int} (hP : h_P D) (h : h_J4_addEntry x0 x1 x2 x3 x4 D = some (r, D')) : aw_HR yJ4_addEntry cJ4_addEntry 6 none 2 G [(2, x0), (2, x1), (2, x2), (2, x3), (0, x4)] D none D' := by
  unfold h_J4_addEntry at h
  refine hw_body (own := "java/util/TreeMap") (ini := false) (ls := [(0, (2, x0)), (1, (2, x1)), (2, (2, x2)), (3, (2, x3)), (4, (0, x4))]) rfl rfl (fun h => by cases h) (Nat.le_of_ble_eq_true rfl) rfl fun Q hq => ?_
  replace h := ga_let_some h; obtain ⟨z0, ez0, h⟩ := h
  replace h := ga_let_some h; obtain ⟨D0, eD0, h⟩ := h
  refine hy_new hP ez0 eD0 rfl rfl dJ4_addEntry_0 rfl rfl q4252 q4253 q493 (fun hP0 hE0 hz0 hg0 => ?_)
  refine hw_1 (fun k => x_dup dJ4_addEntry_3 rfl k) ?_
  refine hw_1 (fun k => x_aload_n dJ4_addEntry_4 rfl k) ?_
  refine hw_1 (fun k => x_aload_n dJ4_addEntry_5 rfl k) ?_
  refine hw_1 (fun k => x_aload_n dJ4_addEntry_6 rfl k) ?_
  replace h := ga_bind_some h; obtain ⟨r7, D7, g7, h⟩ := h
  have hR7 := (h_J35_init_ok (G := G) (hk_pos1 hz0 (by decide)) hP0 g7)
  obtain ⟨hP7, hE7, -⟩ := id hR7
  refine hw_call (rest := [(2, z0)]) hR7 (fun hc hk9 => x_callI (as := [(2, x1), (2, x2), (2, x3)]) (rest := [(2, z0)]) dJ4_addEntry_7 hc (lw_meth q4256) q493 q4254 q4255 hz0 rfl rfl (show _ ∧ _ ∧ _ = some 3 from by decide +kernel) (by decide) (by decide) rfl (Nat.le_of_ble_eq_true rfl) hk9 aw_nox) ?_
  refine hw_1 (fun k => x_astore (ls' := [(5, (2, z0)), (0, (2, x0)), (1, (2, x1)), (2, (2, x2)), (3, (2, x3)), (4, (0, x4))]) dJ4_addEntry_10 (by decide) rfl k) ?_
  refine hw_1 (fun k => x_iload dJ4_addEntry_12 rfl k) ?_
  by_cases c14 : x4 = 0
  · rw [if_pos c14] at h
    refine hw_1 (fun k => x_if_eq (tgt := 26) dJ4_addEntry_14 (by decide) (fun _ => k) (fun z => absurd c14 z)) ?_
    refine hw_1 (fun k => x_aload_n dJ4_addEntry_26 rfl k) ?_
    refine hw_1 (fun k => x_aload dJ4_addEntry_27 rfl k) ?_
    replace h := ga_ck_some h; obtain ⟨hc29_0, h⟩ := h
    replace h := ga_let_some h; obtain ⟨D29, eD29, h⟩ := h
    refine hw_set eD29 (Int.le_trans (by decide) (hkge_76 hc29_0)) (by decide) (fun k => x_putf dJ4_addEntry_29 fl_J4_114 rfl hc29_0 (hkge_76 hc29_0) trivial k) ?_
    have hP29 : h_P D29 := hP7.set eD29 (hkge_76 hc29_0) (by decide) (hPn hc29_0 rfl)
    have hE29 : h_E D7 D29 := h_E_set eD29 (by decide)
    refine hw_locs [1, 0] (ls' := [(0, (2, x0)), (5, (2, z0))]) rfl ?_
    refine h_J4_addEntry_j32_ok hq hP29 h
  · rw [if_neg c14] at h
    refine hw_1 (fun k => x_if_eq (tgt := 26) dJ4_addEntry_14 (by decide) (fun z => absurd z c14) (fun _ => k)) ?_
    refine hw_1 (fun k => x_aload_n dJ4_addEntry_17 rfl k) ?_
    refine hw_1 (fun k => x_aload dJ4_addEntry_18 rfl k) ?_
    replace h := ga_ck_some h; obtain ⟨hc20_0, h⟩ := h
    replace h := ga_let_some h; obtain ⟨D20, eD20, h⟩ := h
    refine hw_set eD20 (Int.le_trans (by decide) (hkge_76 hc20_0)) (by decide) (fun k => x_putf dJ4_addEntry_20 fl_J4_111 rfl hc20_0 (hkge_76 hc20_0) trivial k) ?_
    have hP20 : h_P D20 := hP7.set eD20 (hkge_76 hc20_0) (by decide) (hPn hc20_0 rfl)
    have hE20 : h_E D7 D20 := h_E_set eD20 (by decide)
    refine hw_1 (fun k => x_goto (tgt := 32) dJ4_addEntry_23 (by decide) k) ?_
    refine hw_locs [1, 0] (ls' := [(0, (2, x0)), (5, (2, z0))]) rfl ?_
    refine h_J4_addEntry_j32_ok hq hP20 h
theorem h_J4_put_2_j196_ok {G : aw_G} {M0 : aw_M} {D' : ga_D} {Q : Option aw_V → aw_M → Prop} {r : Int} (hq : Q (some (2, r)) (hM D')) {k201 : Int → Int → Int → Int → Int → ga_D → ga_S} {k123 : Int → Int → Int → Int → Int → Int → ga_D → ga_S} (hk201 : ∀ (x0 x1 x2 x5 x6 : Int) (D : ga_D), h_P D → k201 x0 x1 x2 x5 x6 D = some (r, D') → aw_HW G "java/util/TreeMap" cJ4_put_2 (some (.object "java/lang/Object")) 10 5 false M0 Q aw_no D' (hn D') (hsl D') 201 [(0, (2, x0)), (1, (2, x1)), (2, (2, x2)), (5, (0, x5)), (6, (2, x6))] [] D) (hk123 : ∀ (x0 x1 x2 x3 x4 x8 : Int) (D : ga_D), h_P D → k123 x0 x1 x2 x3 x4 x8 D = some (r, D') → aw_HW G "java/util/TreeMap" cJ4_put_2 (some (.object "java/lang/Object")) 10 5 false M0 Q aw_no D' (hn D') (hsl D') 123 [(0, (2, x0)), (1, (2, x1)), (2, (2, x2)), (3, (0, x3)), (4, (2, x4)), (8, (2, x8))] [] D) {x0 x1 x2 x3 x4 x5 x6 x8 : Int} {D : ga_D} (hP : h_P D) (h : h_J4_put_2_j196 x0 x1 x2 x3 x4 x5 x6 x8 D k201 k123 = some (r, D')) : aw_HW G "java/util/TreeMap" cJ4_put_2 (some (.object "java/lang/Object")) 10 5 false M0 Q aw_no D' (hn D') (hsl D') 196 [(0, (2, x0)), (1, (2, x1)), (2, (2, x2)), (3, (0, x3)), (4, (2, x4)), (5, (0, x5)), (6, (2, x6)), (8, (2, x8))] [] D := by
  unfold h_J4_put_2_j196 at h
  refine hw_1 (fun k => x_aload dJ4_put_2_196 rfl k) ?_
  by_cases c198 : x4 ≠ 0
  · rw [if_pos c198] at h
    refine hw_1 (fun k => x_ifnonnull (tgt := 123) dJ4_put_2_198 (by decide) (fun _ => k) (fun z => absurd c198 z)) ?_
    refine hw_locs [0, 1, 2, 3, 4, 7] (ls' := [(0, (2, x0)), (1, (2, x1)), (2, (2, x2)), (3, (0, x3)), (4, (2, x4)), (8, (2, x8))]) rfl ?_
    exact hk123 _ _ _ _ _ _ _ hP h
  · rw [if_neg c198] at h
    refine hw_1 (fun k => x_ifnonnull (tgt := 123) dJ4_put_2_198 (by decide) (fun z => absurd z c198) (fun _ => k)) ?_
    refine hw_locs [0, 1, 2, 5, 6] (ls' := [(0, (2, x0)), (1, (2, x1)), (2, (2, x2)), (5, (0, x5)), (6, (2, x6))]) rfl ?_
    exact hk201 _ _ _ _ _ _ hP h
theorem h_J4_put_2_l123_ok {G : aw_G} {M0 : aw_M} {D' : ga_D} {Q : Option aw_V → aw_M → Prop} {r : Int} (hq : Q (some (2, r)) (hM D')) {k201 : Int → Int → Int → Int → Int → ga_D → ga_S} {k171 : Int → Int → Int → ga_D → ga_S} (hk201 : ∀ (x0 x1 x2 x5 x6 : Int) (D : ga_D), h_P D → k201 x0 x1 x2 x5 x6 D = some (r, D') → aw_HW G "java/util/TreeMap" cJ4_put_2 (some (.object "java/lang/Object")) 10 5 false M0 Q aw_no D' (hn D') (hsl D') 201 [(0, (2, x0)), (1, (2, x1)), (2, (2, x2)), (5, (0, x5)), (6, (2, x6))] [] D) (hk171 : ∀ (x2 x3 x4 : Int) (D : ga_D), h_P D → k171 x2 x3 x4 D = some (r, D') → aw_HW G "java/util/TreeMap" cJ4_put_2 (some (.object "java/lang/Object")) 10 5 false M0 Q aw_no D' (hn D') (hsl D') 171 [(2, (2, x2)), (3, (0, x3)), (4, (2, x4))] [] D) : ∀ {n : Nat} {x0 x1 x2 x3 x4 x8 : Int} {D : ga_D}, h_P D → h_J4_put_2_l123 n x0 x1 x2 x3 x4 x8 D k201 k171 = some (r, D') → aw_HW G "java/util/TreeMap" cJ4_put_2 (some (.object "java/lang/Object")) 10 5 false M0 Q aw_no D' (hn D') (hsl D') 123 [(0, (2, x0)), (1, (2, x1)), (2, (2, x2)), (3, (0, x3)), (4, (2, x4)), (8, (2, x8))] [] D := by
  intro n
  induction n with
  | zero => intro x0 x1 x2 x3 x4 x8 D hP h; exact absurd (h : (none : ga_S) = some (r, D')) (by intro h; cases h)
  | succ n ih =>
    intro x0 x1 x2 x3 x4 x8 D hP h
    have ih : ∀ (x0 x1 x2 x3 x4 x8 : Int) (D : ga_D), h_P D → h_J4_put_2_l123 n x0 x1 x2 x3 x4 x8 D k201 k171 = some (r, D') → aw_HW G "java/util/TreeMap" cJ4_put_2 (some (.object "java/lang/Object")) 10 5 false M0 Q aw_no D' (hn D') (hsl D') 123 [(0, (2, x0)), (1, (2, x1)), (2, (2, x2)), (3, (0, x3)), (4, (2, x4)), (8, (2, x8))] [] D := fun x0 x1 x2 x3 x4 x8 D hP h => ih hP h
    replace h : (ga_ck (hk D x4 = (76, 0)) (ga_bind (if hk D x8 = (68, 0) then (none) else if hk D x8 = (69, 0) then (none) else if hk D x8 = (70, 0) then (h_J25_compareTo x8 (D x4 0) D) else if hk D x8 = (73, 0) then (h_J30_compareTo x8 (D x4 0) D) else none) (fun r134 D134 => if 0 ≤ r134 then (if r134 ≤ 0 then (k171 x2 x3 x4 D134) else (ga_let (D134 x4 3) (fun v166 => h_J4_put_2_j196 x0 x1 x2 x3 v166 r134 x4 x8 D134 (fun x0 x1 x2 x5 x6 D201 => k201 x0 x1 x2 x5 x6 D201) (fun x0 x1 x2 x3 x4 x8 D123 => h_J4_put_2_l123 n x0 x1 x2 x3 x4 x8 D123 k201 k171)))) else (ga_let (D134 x4 2) (fun v151 => h_J4_put_2_j196 x0 x1 x2 x3 v151 r134 x4 x8 D134 (fun x0 x1 x2 x5 x6 D201 => k201 x0 x1 x2 x5 x6 D201) (fun x0 x1 x2 x3 x4 x8 D123 => h_J4_put_2_l123 n x0 x1 x2 x3 x4 x8 D123 k201 k171))))) : ga_S) = some (r, D') := h
    refine hw_1 (fun k => x_aload dJ4_put_2_123 rfl k) ?_
    refine hw_1 (fun k => x_astore (ls' := [(6, (2, x4)), (0, (2, x0)), (1, (2, x1)), (2, (2, x2)), (3, (0, x3)), (4, (2, x4)), (8, (2, x8))]) dJ4_put_2_125 (by decide) rfl k) ?_
    refine hw_1 (fun k => x_aload dJ4_put_2_127 rfl k) ?_
    refine hw_1 (fun k => x_aload dJ4_put_2_129 rfl k) ?_
    replace h := ga_ck_some h; obtain ⟨hc131_0, h⟩ := h
    refine hw_1 (fun k => x_getf (v := D x4 0) dJ4_put_2_131 fl_J4_105 hc131_0 rfl k) ?_
    replace h := ga_bind_some h; obtain ⟨r134, D134, g134, h⟩ := h
    have hS134 : h_P D134 ∧ h_E D D134 ∧ ∃ mc ms : Nat, hn D + mc = hn D134 ∧ hsl D + ms = hsl D134 ∧ ∀ {c sl : Nat}, aw_W G "java/util/TreeMap" cJ4_put_2 (some (.object "java/lang/Object")) 10 5 false M0 Q aw_no c sl 139 [(6, (2, x4)), (0, (2, x0)), (1, (2, x1)), (2, (2, x2)), (3, (0, x3)), (4, (2, x4)), (8, (2, x8))] [(0, r134)] (hM D134) → aw_W G "java/util/TreeMap" cJ4_put_2 (some (.object "java/lang/Object")) 10 5 false M0 Q aw_no (c + mc) (sl + ms) 134 [(6, (2, x4)), (0, (2, x0)), (1, (2, x1)), (2, (2, x2)), (3, (0, x3)), (4, (2, x4)), (8, (2, x8))] [(2, D x4 0), (2, x8)] (hM D) := by
      by_cases w134_68 : hk D x8 = (68, 0)
      · rw [if_pos w134_68] at g134
        exact absurd g134 (by intro h; cases h)
      rw [if_neg w134_68] at g134
      by_cases w134_69 : hk D x8 = (69, 0)
      · rw [if_pos w134_69] at g134
        exact absurd g134 (by intro h; cases h)
      rw [if_neg w134_69] at g134
      by_cases w134_70 : hk D x8 = (70, 0)
      · rw [if_pos w134_70] at g134
        have hR := (h_J25_compareTo_ok (G := G) hP g134)
        exact hw_callM (rest := []) hR (fun hc hk9 => x_callF (C := "java/lang/Integer") (as := [(2, D x4 0)]) (rest := []) dJ4_put_2_134 hc q3843 q4229 (by decide +kernel) q3839 q3841 q476 q3842 q3840 q3838 w134_70 rfl rfl (show _ = some 1 from by decide +kernel) (by decide) (by decide) rfl (Nat.le_of_ble_eq_true rfl) hk9 aw_nox)
      rw [if_neg w134_70] at g134
      by_cases w134_73 : hk D x8 = (73, 0)
      · rw [if_pos w134_73] at g134
        have hR := (h_J30_compareTo_ok (G := G) hP g134)
        exact hw_callM (rest := []) hR (fun hc hk9 => x_callF (C := "java/lang/Long") (as := [(2, D x4 0)]) (rest := []) dJ4_put_2_134 hc q3856 q4229 (by decide +kernel) q3852 q3854 q485 q3855 q3853 q3851 w134_73 rfl rfl (show _ = some 1 from by decide +kernel) (by decide) (by decide) rfl (Nat.le_of_ble_eq_true rfl) hk9 aw_nox)
      rw [if_neg w134_73] at g134
      exact absurd g134 (by intro h; cases h)
    obtain ⟨hP134, hE134, hS134⟩ := hS134
    refine hw_go ⟨hE134, hS134⟩ ?_
    refine hw_1 (fun k => x_istore (ls' := [(5, (0, r134)), (6, (2, x4)), (0, (2, x0)), (1, (2, x1)), (2, (2, x2)), (3, (0, x3)), (4, (2, x4)), (8, (2, x8))]) dJ4_put_2_139 (by decide) rfl k) ?_
    refine hw_1 (fun k => x_iload dJ4_put_2_141 rfl k) ?_
    by_cases c143 : 0 ≤ r134
    · rw [if_pos c143] at h
      refine hw_1 (fun k => x_if_ge (tgt := 156) dJ4_put_2_143 (by decide) (fun _ => k) (fun z => absurd c143 z)) ?_
      refine hw_1 (fun k => x_iload dJ4_put_2_156 rfl k) ?_
      by_cases c158 : r134 ≤ 0
      · rw [if_pos c158] at h
        refine hw_1 (fun k => x_if_le (tgt := 171) dJ4_put_2_158 (by decide) (fun _ => k) (fun z => absurd c158 z)) ?_
        refine hw_locs [4, 5, 6] (ls' := [(2, (2, x2)), (3, (0, x3)), (4, (2, x4))]) rfl ?_
        exact hk171 _ _ _ _ hP134 h
      · rw [if_neg c158] at h
        refine hw_1 (fun k => x_if_le (tgt := 171) dJ4_put_2_158 (by decide) (fun z => absurd z c158) (fun _ => k)) ?_
        refine hw_1 (fun k => x_aload dJ4_put_2_161 rfl k) ?_
        refine hw_1 (fun k => x_getf (v := D134 x4 3) dJ4_put_2_163 fl_J4_114 (h_kx hE134 hc131_0 (by decide)) rfl k) ?_
        replace h := ga_let_some h; obtain ⟨v166, ev166, h⟩ := h
        refine hw_nm ev166 ?_
        refine hw_1 (fun k => x_astore (ls' := [(4, (2, v166)), (5, (0, r134)), (6, (2, x4)), (0, (2, x0)), (1, (2, x1)), (2, (2, x2)), (3, (0, x3)), (8, (2, x8))]) dJ4_put_2_166 (by decide) rfl k) ?_
        refine hw_1 (fun k => x_goto (tgt := 196) dJ4_put_2_168 (by decide) k) ?_
        refine hw_locs [3, 4, 5, 6, 0, 1, 2, 7] (ls' := [(0, (2, x0)), (1, (2, x1)), (2, (2, x2)), (3, (0, x3)), (4, (2, v166)), (5, (0, r134)), (6, (2, x4)), (8, (2, x8))]) rfl ?_
        refine h_J4_put_2_j196_ok hq (fun x0 x1 x2 x5 x6 D201 hP h => ?_) (fun x0 x1 x2 x3 x4 x8 D123 hP h => ?_) hP134 h
        · exact hk201 _ _ _ _ _ _ hP h
        · exact ih _ _ _ _ _ _ _ hP h
    · rw [if_neg c143] at h
      refine hw_1 (fun k => x_if_ge (tgt := 156) dJ4_put_2_143 (by decide) (fun z => absurd z c143) (fun _ => k)) ?_
      refine hw_1 (fun k => x_aload dJ4_put_2_146 rfl k) ?_
      refine hw_1 (fun k => x_getf (v := D134 x4 2) dJ4_put_2_148 fl_J4_111 (h_kx hE134 hc131_0 (by decide)) rfl k) ?_
      replace h := ga_let_some h; obtain ⟨v151, ev151, h⟩ := h
      refine hw_nm ev151 ?_
      refine hw_1 (fun k => x_astore (ls' := [(4, (2, v151)), (5, (0, r134)), (6, (2, x4)), (0, (2, x0)), (1, (2, x1)), (2, (2, x2)), (3, (0, x3)), (8, (2, x8))]) dJ4_put_2_151 (by decide) rfl k) ?_
      refine hw_1 (fun k => x_goto (tgt := 196) dJ4_put_2_153 (by decide) k) ?_
      refine hw_locs [3, 4, 5, 6, 0, 1, 2, 7] (ls' := [(0, (2, x0)), (1, (2, x1)), (2, (2, x2)), (3, (0, x3)), (4, (2, v151)), (5, (0, r134)), (6, (2, x4)), (8, (2, x8))]) rfl ?_
      refine h_J4_put_2_j196_ok hq (fun x0 x1 x2 x5 x6 D201 hP h => ?_) (fun x0 x1 x2 x3 x4 x8 D123 hP h => ?_) hP134 h
      · exact hk201 _ _ _ _ _ _ hP h
      · exact ih _ _ _ _ _ _ _ hP h
theorem h_J4_put_2_j216_ok {G : aw_G} {M0 : aw_M} {D' : ga_D} {Q : Option aw_V → aw_M → Prop} {r : Int} (hq : Q (some (2, r)) (hM D')) {s0 s1 s2 s3 s4 : Int} {D : ga_D} (hP : h_P D) (h : h_J4_put_2_j216 s0 s1 s2 s3 s4 D = some (r, D')) : aw_HW G "java/util/TreeMap" cJ4_put_2 (some (.object "java/lang/Object")) 10 5 false M0 Q aw_no D' (hn D') (hsl D') 216 [] [(0, s0), (2, s1), (2, s2), (2, s3), (2, s4)] D := by
  unfold h_J4_put_2_j216 at h
  replace h := ga_ck_some h; obtain ⟨hc216_0, h⟩ := h
  replace h := ga_bind_some h; obtain ⟨r216, D216, g216, h⟩ := h
  have hR216 := (h_J4_addEntry_ok (G := G) hP g216)
  obtain ⟨hP216, hE216, -⟩ := id hR216
  refine hw_call (rest := []) hR216 (fun hc hk9 => x_callV (as := [(2, s3), (2, s2), (2, s1), (0, s0)]) (rest := []) dJ4_put_2_216 hc (lw_V q4283 q4285 qs37 q403 q4286) hc216_0 rfl rfl (show _ ∧ _ ∧ _ ∧ _ = some 4 from by decide +kernel) (by decide) (by decide) rfl (Nat.le_of_ble_eq_true rfl) hk9 aw_nox) ?_
  refine hw_1 (fun k => x_null dJ4_put_2_219 k) ?_
  obtain ⟨rfl, rfl⟩ := ga_end h
  exact hw_ret hP216 (x_aret dJ4_put_2_220 rfl (by first | exact Or.inl ⟨_, rfl⟩ | exact Or.inr ⟨_, rfl⟩) hq)
theorem h_J4_put_2_j201_ok {G : aw_G} {M0 : aw_M} {D' : ga_D} {Q : Option aw_V → aw_M → Prop} {r : Int} (hq : Q (some (2, r)) (hM D')) {x0 x1 x2 x5 x6 : Int} {D : ga_D} (hP : h_P D) (h : h_J4_put_2_j201 x0 x1 x2 x5 x6 D = some (r, D')) : aw_HW G "java/util/TreeMap" cJ4_put_2 (some (.object "java/lang/Object")) 10 5 false M0 Q aw_no D' (hn D') (hsl D') 201 [(0, (2, x0)), (1, (2, x1)), (2, (2, x2)), (5, (0, x5)), (6, (2, x6))] [] D := by
  unfold h_J4_put_2_j201 at h
  refine hw_1 (fun k => x_aload_n dJ4_put_2_201 rfl k) ?_
  refine hw_1 (fun k => x_aload_n dJ4_put_2_202 rfl k) ?_
  refine hw_1 (fun k => x_aload_n dJ4_put_2_203 rfl k) ?_
  refine hw_1 (fun k => x_aload dJ4_put_2_204 rfl k) ?_
  refine hw_1 (fun k => x_iload dJ4_put_2_206 rfl k) ?_
  by_cases c208 : 0 ≤ x5
  · rw [if_pos c208] at h
    refine hw_1 (fun k => x_if_ge (tgt := 215) dJ4_put_2_208 (by decide) (fun _ => k) (fun z => absurd c208 z)) ?_
    refine hw_1 (fun k => x_iconst dJ4_put_2_215 (by decide) k) ?_
    refine hw_locs [] (ls' := []) rfl ?_
    refine h_J4_put_2_j216_ok hq hP h
  · rw [if_neg c208] at h
    refine hw_1 (fun k => x_if_ge (tgt := 215) dJ4_put_2_208 (by decide) (fun z => absurd z c208) (fun _ => k)) ?_
    refine hw_1 (fun k => x_iconst dJ4_put_2_211 (by decide) k) ?_
    refine hw_1 (fun k => x_goto (tgt := 216) dJ4_put_2_212 (by decide) k) ?_
    refine hw_locs [] (ls' := []) rfl ?_
    refine h_J4_put_2_j216_ok hq hP h
theorem h_J4_put_2_l30_ok {G : aw_G} {M0 : aw_M} {D' : ga_D} {Q : Option aw_V → aw_M → Prop} {r : Int} (hq : Q (some (2, r)) (hM D')) {k109 : Int → Int → Int → Int → Int → ga_D → ga_S} {k79 : Int → Int → Int → ga_D → ga_S} (hk109 : ∀ (x0 x1 x2 x5 x6 : Int) (D : ga_D), h_P D → k109 x0 x1 x2 x5 x6 D = some (r, D') → aw_HW G "java/util/TreeMap" cJ4_put_2 (some (.object "java/lang/Object")) 10 5 false M0 Q aw_no D' (hn D') (hsl D') 109 [(0, (2, x0)), (1, (2, x1)), (2, (2, x2)), (5, (0, x5)), (6, (2, x6))] [] D) (hk79 : ∀ (x2 x3 x4 : Int) (D : ga_D), h_P D → k79 x2 x3 x4 D = some (r, D') → aw_HW G "java/util/TreeMap" cJ4_put_2 (some (.object "java/lang/Object")) 10 5 false M0 Q aw_no D' (hn D') (hsl D') 79 [(2, (2, x2)), (3, (0, x3)), (4, (2, x4))] [] D) : ∀ {n : Nat} {x0 x1 x2 x3 x4 x7 : Int} {D : ga_D}, h_P D → h_J4_put_2_l30 n x0 x1 x2 x3 x4 x7 D k109 k79 = some (r, D') → aw_HW G "java/util/TreeMap" cJ4_put_2 (some (.object "java/lang/Object")) 10 5 false M0 Q aw_no D' (hn D') (hsl D') 30 [(0, (2, x0)), (1, (2, x1)), (2, (2, x2)), (3, (0, x3)), (4, (2, x4)), (7, (2, x7))] [] D := by
  intro n
  induction n with
  | zero => intro x0 x1 x2 x3 x4 x7 D hP h; exact absurd (h : (none : ga_S) = some (r, D')) (by intro h; cases h)
  | succ n ih =>
    intro x0 x1 x2 x3 x4 x7 D hP h
    have ih : ∀ (x0 x1 x2 x3 x4 x7 : Int) (D : ga_D), h_P D → h_J4_put_2_l30 n x0 x1 x2 x3 x4 x7 D k109 k79 = some (r, D') → aw_HW G "java/util/TreeMap" cJ4_put_2 (some (.object "java/lang/Object")) 10 5 false M0 Q aw_no D' (hn D') (hsl D') 30 [(0, (2, x0)), (1, (2, x1)), (2, (2, x2)), (3, (0, x3)), (4, (2, x4)), (7, (2, x7))] [] D := fun x0 x1 x2 x3 x4 x7 D hP h => ih hP h
    replace h : (ga_ck (hk D x4 = (76, 0)) (none) : ga_S) = some (r, D') := h
    refine hw_1 (fun k => x_aload dJ4_put_2_30 rfl k) ?_
    refine hw_1 (fun k => x_astore (ls' := [(6, (2, x4)), (0, (2, x0)), (1, (2, x1)), (2, (2, x2)), (3, (0, x3)), (4, (2, x4)), (7, (2, x7))]) dJ4_put_2_32 (by decide) rfl k) ?_
    refine hw_1 (fun k => x_aload dJ4_put_2_34 rfl k) ?_
    refine hw_1 (fun k => x_aload_n dJ4_put_2_36 rfl k) ?_
    refine hw_1 (fun k => x_aload dJ4_put_2_37 rfl k) ?_
    replace h := ga_ck_some h; obtain ⟨hc39_0, h⟩ := h
    refine hw_1 (fun k => x_getf (v := D x4 0) dJ4_put_2_39 fl_J4_105 hc39_0 rfl k) ?_
    exact absurd h (by intro h; cases h)
theorem h_J4_put_2_ok {G : aw_G} {D D' : ga_D} {r : Int} {x0 x1 x2 x3 : Int} (hP : h_P D) (h : h_J4_put_2 x0 x1 x2 x3 D = some (r, D')) : aw_HR yJ4_put_2 cJ4_put_2 10 (some (.object "java/lang/Object")) 5 G [(2, x0), (2, x1), (2, x2), (0, x3)] D (some (2, r)) D' := by
  unfold h_J4_put_2 at h
  refine hw_body (own := "java/util/TreeMap") (ini := false) (ls := [(0, (2, x0)), (1, (2, x1)), (2, (2, x2)), (3, (0, x3))]) rfl rfl (fun h => by cases h) (Nat.le_of_ble_eq_true rfl) rfl fun Q hq => ?_
  refine hw_1 (fun k => x_aload_n dJ4_put_2_0 rfl k) ?_
  replace h := ga_ck_some h; obtain ⟨hc1_0, h⟩ := h
  refine hw_1 (fun k => x_getf (v := D x0 3) dJ4_put_2_1 fl_J4_101 hc1_0 rfl k) ?_
  replace h := ga_let_some h; obtain ⟨v4, ev4, h⟩ := h
  refine hw_nm ev4 ?_
  refine hw_1 (fun k => x_astore (ls' := [(4, (2, v4)), (0, (2, x0)), (1, (2, x1)), (2, (2, x2)), (3, (0, x3))]) dJ4_put_2_4 (by decide) rfl k) ?_
  refine hw_1 (fun k => x_aload dJ4_put_2_6 rfl k) ?_
  by_cases c8 : v4 ≠ 0
  · rw [if_pos c8] at h
    refine hw_1 (fun k => x_ifnonnull (tgt := 19) dJ4_put_2_8 (by decide) (fun _ => k) (fun z => absurd c8 z)) ?_
    refine hw_1 (fun k => x_aload_n dJ4_put_2_19 rfl k) ?_
    refine hw_1 (fun k => x_getf (v := D x0 2) dJ4_put_2_20 fl_J4_16 hc1_0 rfl k) ?_
    replace h := ga_let_some h; obtain ⟨v23, ev23, h⟩ := h
    refine hw_nm ev23 ?_
    refine hw_1 (fun k => x_astore (ls' := [(7, (2, v23)), (4, (2, v4)), (0, (2, x0)), (1, (2, x1)), (2, (2, x2)), (3, (0, x3))]) dJ4_put_2_23 (by decide) rfl k) ?_
    refine hw_1 (fun k => x_aload dJ4_put_2_25 rfl k) ?_
    by_cases c27 : v23 = 0
    · rw [if_pos c27] at h
      refine hw_1 (fun k => x_ifnull (tgt := 112) dJ4_put_2_27 (by decide) (fun _ => k) (fun z => absurd c27 z)) ?_
      refine hw_1 (fun k => x_aload_n dJ4_put_2_112 rfl k) ?_
      replace h := ga_bind_some h; obtain ⟨r113, D113, g113, h⟩ := h
      have hR113 := (h_J27_requireNonNull_ok (G := G) hP g113)
      obtain ⟨hP113, hE113, -⟩ := id hR113
      refine hw_call (rest := []) hR113 (fun hc hk9 => x_callS (as := [(2, x1)]) (rest := []) dJ4_put_2_113 hc (lw_S q4224 q4225 q478 q4226) (show _ ∧ _ ∧ _ = some 1 from by decide +kernel) (by decide) (by decide) rfl (Nat.le_of_ble_eq_true rfl) hk9 aw_nox) ?_
      refine hw_1 (fun k => x_pop dJ4_put_2_116 rfl k) ?_
      refine hw_1 (fun k => x_aload_n dJ4_put_2_117 rfl k) ?_
      replace h := ga_ck_some h; obtain ⟨hc118_0, h⟩ := h
      refine hw_1 (fun k => x_castL (L := [68, 69, 70, 73]) dJ4_put_2_118 q4227 sbl_java_lang_Comparable (aw_or4 hc118_0) k) ?_
      refine hw_1 (fun k => x_astore (ls' := [(8, (2, x1)), (7, (2, v23)), (4, (2, v4)), (0, (2, x0)), (1, (2, x1)), (2, (2, x2)), (3, (0, x3))]) dJ4_put_2_121 (by decide) rfl k) ?_
      refine hw_locs [3, 4, 5, 6, 2, 0] (ls' := [(0, (2, x0)), (1, (2, x1)), (2, (2, x2)), (3, (0, x3)), (4, (2, v4)), (8, (2, x1))]) rfl ?_
      refine h_J4_put_2_l123_ok hq (fun x0 x1 x2 x5 x6 D201 hP h => ?_) (fun x2 x3 x4 D171 hP h => ?_) hP113 h
      · refine h_J4_put_2_j201_ok hq hP h
      · refine hw_1 (fun k => x_aload dJ4_put_2_171 rfl k) ?_
        replace h := ga_ck_some h; obtain ⟨hc173_0, h⟩ := h
        refine hw_1 (fun k => x_getf (v := D171 x4 1) dJ4_put_2_173 fl_J4_58 hc173_0 rfl k) ?_
        replace h := ga_let_some h; obtain ⟨v176, ev176, h⟩ := h
        refine hw_nm ev176 ?_
        refine hw_1 (fun k => x_astore (ls' := [(9, (2, v176)), (2, (2, x2)), (3, (0, x3)), (4, (2, x4))]) dJ4_put_2_176 (by decide) rfl k) ?_
        refine hw_1 (fun k => x_iload_n dJ4_put_2_178 rfl k) ?_
        by_cases c179 : x3 ≠ 0
        · rw [if_pos c179] at h
          refine hw_1 (fun k => x_if_ne (tgt := 187) dJ4_put_2_179 (by decide) (fun _ => k) (fun z => absurd c179 z)) ?_
          refine hw_1 (fun k => x_aload dJ4_put_2_187 rfl k) ?_
          refine hw_1 (fun k => x_aload_n dJ4_put_2_189 rfl k) ?_
          replace h := ga_let_some h; obtain ⟨D190, eD190, h⟩ := h
          refine hw_set eD190 (Int.le_trans (by decide) (hkge_76 hc173_0)) (by decide) (fun k => x_putf dJ4_put_2_190 fl_J4_58 rfl hc173_0 (hkge_76 hc173_0) trivial k) ?_
          have hP190 : h_P D190 := hP.set eD190 (hkge_76 hc173_0) (by decide) (hPn hc173_0 rfl)
          have hE190 : h_E D171 D190 := h_E_set eD190 (by decide)
          refine hw_1 (fun k => x_aload dJ4_put_2_193 rfl k) ?_
          obtain ⟨rfl, rfl⟩ := ga_end h
          exact hw_ret hP190 (x_aret dJ4_put_2_195 rfl (by first | exact Or.inl ⟨_, rfl⟩ | exact Or.inr ⟨_, rfl⟩) hq)
        · rw [if_neg c179] at h
          refine hw_1 (fun k => x_if_ne (tgt := 187) dJ4_put_2_179 (by decide) (fun z => absurd z c179) (fun _ => k)) ?_
          refine hw_1 (fun k => x_aload dJ4_put_2_182 rfl k) ?_
          by_cases c184 : v176 ≠ 0
          · rw [if_pos c184] at h
            refine hw_1 (fun k => x_ifnonnull (tgt := 193) dJ4_put_2_184 (by decide) (fun _ => k) (fun z => absurd c184 z)) ?_
            refine hw_1 (fun k => x_aload dJ4_put_2_193 rfl k) ?_
            obtain ⟨rfl, rfl⟩ := ga_end h
            exact hw_ret hP (x_aret dJ4_put_2_195 rfl (by first | exact Or.inl ⟨_, rfl⟩ | exact Or.inr ⟨_, rfl⟩) hq)
          · rw [if_neg c184] at h
            refine hw_1 (fun k => x_ifnonnull (tgt := 193) dJ4_put_2_184 (by decide) (fun z => absurd z c184) (fun _ => k)) ?_
            refine hw_1 (fun k => x_aload dJ4_put_2_187 rfl k) ?_
            refine hw_1 (fun k => x_aload_n dJ4_put_2_189 rfl k) ?_
            replace h := ga_let_some h; obtain ⟨D190, eD190, h⟩ := h
            refine hw_set eD190 (Int.le_trans (by decide) (hkge_76 hc173_0)) (by decide) (fun k => x_putf dJ4_put_2_190 fl_J4_58 rfl hc173_0 (hkge_76 hc173_0) trivial k) ?_
            have hP190 : h_P D190 := hP.set eD190 (hkge_76 hc173_0) (by decide) (hPn hc173_0 rfl)
            have hE190 : h_E D171 D190 := h_E_set eD190 (by decide)
            refine hw_1 (fun k => x_aload dJ4_put_2_193 rfl k) ?_
            obtain ⟨rfl, rfl⟩ := ga_end h
            exact hw_ret hP190 (x_aret dJ4_put_2_195 rfl (by first | exact Or.inl ⟨_, rfl⟩ | exact Or.inr ⟨_, rfl⟩) hq)
    · rw [if_neg c27] at h
      refine hw_1 (fun k => x_ifnull (tgt := 112) dJ4_put_2_27 (by decide) (fun z => absurd z c27) (fun _ => k)) ?_
      refine hw_locs [2, 3, 4, 5, 1, 0] (ls' := [(0, (2, x0)), (1, (2, x1)), (2, (2, x2)), (3, (0, x3)), (4, (2, v4)), (7, (2, v23))]) rfl ?_
      refine h_J4_put_2_l30_ok hq (fun x0 x1 x2 x5 x6 D109 hP h => ?_) (fun x2 x3 x4 D79 hP h => ?_) hP h
      · refine hw_1 (fun k => x_goto (tgt := 201) dJ4_put_2_109 (by decide) k) ?_
        refine h_J4_put_2_j201_ok hq hP h
      · refine hw_1 (fun k => x_aload dJ4_put_2_79 rfl k) ?_
        replace h := ga_ck_some h; obtain ⟨hc81_0, h⟩ := h
        refine hw_1 (fun k => x_getf (v := D79 x4 1) dJ4_put_2_81 fl_J4_58 hc81_0 rfl k) ?_
        replace h := ga_let_some h; obtain ⟨v84, ev84, h⟩ := h
        refine hw_nm ev84 ?_
        refine hw_1 (fun k => x_astore (ls' := [(8, (2, v84)), (2, (2, x2)), (3, (0, x3)), (4, (2, x4))]) dJ4_put_2_84 (by decide) rfl k) ?_
        refine hw_1 (fun k => x_iload_n dJ4_put_2_86 rfl k) ?_
        by_cases c87 : x3 ≠ 0
        · rw [if_pos c87] at h
          refine hw_1 (fun k => x_if_ne (tgt := 95) dJ4_put_2_87 (by decide) (fun _ => k) (fun z => absurd c87 z)) ?_
          refine hw_1 (fun k => x_aload dJ4_put_2_95 rfl k) ?_
          refine hw_1 (fun k => x_aload_n dJ4_put_2_97 rfl k) ?_
          replace h := ga_let_some h; obtain ⟨D98, eD98, h⟩ := h
          refine hw_set eD98 (Int.le_trans (by decide) (hkge_76 hc81_0)) (by decide) (fun k => x_putf dJ4_put_2_98 fl_J4_58 rfl hc81_0 (hkge_76 hc81_0) trivial k) ?_
          have hP98 : h_P D98 := hP.set eD98 (hkge_76 hc81_0) (by decide) (hPn hc81_0 rfl)
          have hE98 : h_E D79 D98 := h_E_set eD98 (by decide)
          refine hw_1 (fun k => x_aload dJ4_put_2_101 rfl k) ?_
          obtain ⟨rfl, rfl⟩ := ga_end h
          exact hw_ret hP98 (x_aret dJ4_put_2_103 rfl (by first | exact Or.inl ⟨_, rfl⟩ | exact Or.inr ⟨_, rfl⟩) hq)
        · rw [if_neg c87] at h
          refine hw_1 (fun k => x_if_ne (tgt := 95) dJ4_put_2_87 (by decide) (fun z => absurd z c87) (fun _ => k)) ?_
          refine hw_1 (fun k => x_aload dJ4_put_2_90 rfl k) ?_
          by_cases c92 : v84 ≠ 0
          · rw [if_pos c92] at h
            refine hw_1 (fun k => x_ifnonnull (tgt := 101) dJ4_put_2_92 (by decide) (fun _ => k) (fun z => absurd c92 z)) ?_
            refine hw_1 (fun k => x_aload dJ4_put_2_101 rfl k) ?_
            obtain ⟨rfl, rfl⟩ := ga_end h
            exact hw_ret hP (x_aret dJ4_put_2_103 rfl (by first | exact Or.inl ⟨_, rfl⟩ | exact Or.inr ⟨_, rfl⟩) hq)
          · rw [if_neg c92] at h
            refine hw_1 (fun k => x_ifnonnull (tgt := 101) dJ4_put_2_92 (by decide) (fun z => absurd z c92) (fun _ => k)) ?_
            refine hw_1 (fun k => x_aload dJ4_put_2_95 rfl k) ?_
            refine hw_1 (fun k => x_aload_n dJ4_put_2_97 rfl k) ?_
            replace h := ga_let_some h; obtain ⟨D98, eD98, h⟩ := h
            refine hw_set eD98 (Int.le_trans (by decide) (hkge_76 hc81_0)) (by decide) (fun k => x_putf dJ4_put_2_98 fl_J4_58 rfl hc81_0 (hkge_76 hc81_0) trivial k) ?_
            have hP98 : h_P D98 := hP.set eD98 (hkge_76 hc81_0) (by decide) (hPn hc81_0 rfl)
            have hE98 : h_E D79 D98 := h_E_set eD98 (by decide)
            refine hw_1 (fun k => x_aload dJ4_put_2_101 rfl k) ?_
            obtain ⟨rfl, rfl⟩ := ga_end h
            exact hw_ret hP98 (x_aret dJ4_put_2_103 rfl (by first | exact Or.inl ⟨_, rfl⟩ | exact Or.inr ⟨_, rfl⟩) hq)
  · rw [if_neg c8] at h
    refine hw_1 (fun k => x_ifnonnull (tgt := 19) dJ4_put_2_8 (by decide) (fun z => absurd z c8) (fun _ => k)) ?_
    refine hw_1 (fun k => x_aload_n dJ4_put_2_11 rfl k) ?_
    refine hw_1 (fun k => x_aload_n dJ4_put_2_12 rfl k) ?_
    refine hw_1 (fun k => x_aload_n dJ4_put_2_13 rfl k) ?_
    replace h := ga_bind_some h; obtain ⟨r14, D14, g14, h⟩ := h
    have hR14 := (h_J4_addEntryToEmptyMap_ok (G := G) hP g14)
    obtain ⟨hP14, hE14, -⟩ := id hR14
    refine hw_call (rest := []) hR14 (fun hc hk9 => x_callV (as := [(2, x1), (2, x2)]) (rest := []) dJ4_put_2_14 hc (lw_V q4244 q4246 qs36 q403 q4247) hc1_0 rfl rfl (show _ ∧ _ ∧ _ ∧ _ = some 2 from by decide +kernel) (by decide) (by decide) rfl (Nat.le_of_ble_eq_true rfl) hk9 aw_nox) ?_
    refine hw_1 (fun k => x_null dJ4_put_2_17 k) ?_
    obtain ⟨rfl, rfl⟩ := ga_end h
    exact hw_ret hP14 (x_aret dJ4_put_2_18 rfl (by first | exact Or.inl ⟨_, rfl⟩ | exact Or.inr ⟨_, rfl⟩) hq)
theorem h_J4_put_ok {G : aw_G} {D D' : ga_D} {r : Int} {x0 x1 x2 : Int} (hP : h_P D) (h : h_J4_put x0 x1 x2 D = some (r, D')) : aw_HR yJ4_put cJ4_put 3 (some (.object "java/lang/Object")) 6 G [(2, x0), (2, x1), (2, x2)] D (some (2, r)) D' := by
  unfold h_J4_put at h
  refine hw_body (own := "java/util/TreeMap") (ini := false) (ls := [(0, (2, x0)), (1, (2, x1)), (2, (2, x2))]) rfl rfl (fun h => by cases h) (Nat.le_of_ble_eq_true rfl) rfl fun Q hq => ?_
  refine hw_1 (fun k => x_aload_n dJ4_put_0 rfl k) ?_
  refine hw_1 (fun k => x_aload_n dJ4_put_1 rfl k) ?_
  refine hw_1 (fun k => x_aload_n dJ4_put_2 rfl k) ?_
  refine hw_1 (fun k => x_iconst dJ4_put_3 (by decide) k) ?_
  replace h := ga_ck_some h; obtain ⟨hc4_0, h⟩ := h
  replace h := ga_bind_some h; obtain ⟨r4, D4, g4, h⟩ := h
  have hR4 := (h_J4_put_2_ok (G := G) hP g4)
  obtain ⟨hP4, hE4, -⟩ := id hR4
  refine hw_call (rest := []) hR4 (fun hc hk9 => x_callV (as := [(2, x1), (2, x2), (0, 1)]) (rest := []) dJ4_put_4 hc (lw_V q4240 q4242 qs35 q403 q4243) hc4_0 rfl rfl (show _ ∧ _ ∧ _ ∧ _ = some 3 from by decide +kernel) (by decide) (by decide) rfl (Nat.le_of_ble_eq_true rfl) hk9 aw_nox) ?_
  obtain ⟨rfl, rfl⟩ := ga_end h
  exact hw_ret hP4 (x_aret dJ4_put_7 rfl (by first | exact Or.inl ⟨_, rfl⟩ | exact Or.inr ⟨_, rfl⟩) hq)
theorem h_J4_get_ok {G : aw_G} {D D' : ga_D} {r : Int} {x0 x1 : Int} (hP : h_P D) (h : h_J4_get x0 x1 D = some (r, D')) : aw_HR yJ4_get cJ4_get 3 (some (.object "java/lang/Object")) 4 G [(2, x0), (2, x1)] D (some (2, r)) D' := by
  unfold h_J4_get at h
  refine hw_body (own := "java/util/TreeMap") (ini := false) (ls := [(0, (2, x0)), (1, (2, x1))]) rfl rfl (fun h => by cases h) (Nat.le_of_ble_eq_true rfl) rfl fun Q hq => ?_
  refine hw_1 (fun k => x_aload_n dJ4_get_0 rfl k) ?_
  refine hw_1 (fun k => x_aload_n dJ4_get_1 rfl k) ?_
  replace h := ga_ck_some h; obtain ⟨hc2_0, h⟩ := h
  replace h := ga_bind_some h; obtain ⟨r2, D2, g2, h⟩ := h
  have hR2 := (h_J4_getEntry_ok (G := G) hP g2)
  obtain ⟨hP2, hE2, -⟩ := id hR2
  refine hw_call (rest := []) hR2 (fun hc hk9 => x_callV (as := [(2, x1)]) (rest := []) dJ4_get_2 hc (lw_V q4212 q4213 q4214 q403 q4215) hc2_0 rfl rfl (show _ ∧ _ ∧ _ ∧ _ = some 1 from by decide +kernel) (by decide) (by decide) rfl (Nat.le_of_ble_eq_true rfl) hk9 aw_nox) ?_
  refine hw_1 (fun k => x_astore_n (ls' := [(2, (2, r2)), (0, (2, x0)), (1, (2, x1))]) dJ4_get_5 (by decide) rfl k) ?_
  refine hw_1 (fun k => x_aload_n dJ4_get_6 rfl k) ?_
  by_cases c7 : r2 ≠ 0
  · rw [if_pos c7] at h
    refine hw_1 (fun k => x_ifnonnull (tgt := 14) dJ4_get_7 (by decide) (fun _ => k) (fun z => absurd c7 z)) ?_
    refine hw_1 (fun k => x_aload_n dJ4_get_14 rfl k) ?_
    replace h := ga_ck_some h; obtain ⟨hc15_0, h⟩ := h
    refine hw_1 (fun k => x_getf (v := D2 r2 1) dJ4_get_15 fl_J4_58 hc15_0 rfl k) ?_
    obtain ⟨rfl, rfl⟩ := ga_end h
    exact hw_ret hP2 (x_aret dJ4_get_18 rfl (by first | exact Or.inl ⟨_, rfl⟩ | exact Or.inr ⟨_, rfl⟩) hq)
  · rw [if_neg c7] at h
    refine hw_1 (fun k => x_ifnonnull (tgt := 14) dJ4_get_7 (by decide) (fun z => absurd z c7) (fun _ => k)) ?_
    refine hw_1 (fun k => x_null dJ4_get_10 k) ?_
    refine hw_1 (fun k => x_goto (tgt := 18) dJ4_get_11 (by decide) k) ?_
    obtain ⟨rfl, rfl⟩ := ga_end h
    exact hw_ret hP2 (x_aret dJ4_get_18 rfl (by first | exact Or.inl ⟨_, rfl⟩ | exact Or.inr ⟨_, rfl⟩) hq)
theorem h_J4_entrySet_ok {G : aw_G} {D D' : ga_D} {r : Int} {x0 : Int} (hP : h_P D) (h : h_J4_entrySet x0 D = some (r, D')) : aw_HR yJ4_entrySet cJ4_entrySet 2 (some (.object "java/util/Set")) 4 G [(2, x0)] D (some (2, r)) D' := by
  unfold h_J4_entrySet at h
  refine hw_body (own := "java/util/TreeMap") (ini := false) (ls := [(0, (2, x0))]) rfl rfl (fun h => by cases h) (Nat.le_of_ble_eq_true rfl) rfl fun Q hq => ?_
  refine hw_1 (fun k => x_aload_n dJ4_entrySet_0 rfl k) ?_
  replace h := ga_ck_some h; obtain ⟨hc1_0, h⟩ := h
  refine hw_1 (fun k => x_getf (v := D x0 6) dJ4_entrySet_1 fl_J4_188 hc1_0 rfl k) ?_
  replace h := ga_let_some h; obtain ⟨v4, ev4, h⟩ := h
  refine hw_nm ev4 ?_
  refine hw_1 (fun k => x_astore_n (ls' := [(1, (2, v4)), (0, (2, x0))]) dJ4_entrySet_4 (by decide) rfl k) ?_
  refine hw_1 (fun k => x_aload_n dJ4_entrySet_5 rfl k) ?_
  by_cases c6 : v4 = 0
  · rw [if_pos c6] at h
    refine hw_1 (fun k => x_ifnull (tgt := 13) dJ4_entrySet_6 (by decide) (fun _ => k) (fun z => absurd c6 z)) ?_
    refine hw_1 (fun k => x_aload_n dJ4_entrySet_13 rfl k) ?_
    replace h := ga_let_some h; obtain ⟨z14, ez14, h⟩ := h
    replace h := ga_let_some h; obtain ⟨D14, eD14, h⟩ := h
    refine hy_new hP ez14 eD14 rfl rfl dJ4_entrySet_14 rfl rfl q4379 q4380 q494 (fun hP14 hE14 hz14 hg14 => ?_)
    refine hw_1 (fun k => x_dup dJ4_entrySet_17 rfl k) ?_
    refine hw_1 (fun k => x_aload_n dJ4_entrySet_18 rfl k) ?_
    replace h := ga_bind_some h; obtain ⟨r19, D19, g19, h⟩ := h
    have hR19 := (h_J36_init_ok (G := G) (hk_pos1 hz14 (by decide)) hP14 g19)
    obtain ⟨hP19, hE19, -⟩ := id hR19
    refine hw_call (rest := [(2, z14), (2, x0)]) hR19 (fun hc hk9 => x_callI (as := [(2, x0)]) (rest := [(2, z14), (2, x0)]) dJ4_entrySet_19 hc (lw_meth q4383) q494 q4381 q4382 hz14 rfl rfl (show _ ∧ _ ∧ _ = some 1 from by decide +kernel) (by decide) (by decide) rfl (Nat.le_of_ble_eq_true rfl) hk9 aw_nox) ?_
    refine hw_1 (fun k => x_dup_x1 dJ4_entrySet_22 rfl rfl k) ?_
    replace h := ga_let_some h; obtain ⟨D23, eD23, h⟩ := h
    refine hw_set eD23 (Int.le_trans (by decide) (hkge_61 (h_kx hE19 (h_kx hE14 hc1_0 (by decide)) (by decide)))) (by decide) (fun k => x_putf dJ4_entrySet_23 fl_J4_188 rfl (h_kx hE19 (h_kx hE14 hc1_0 (by decide)) (by decide)) (hkge_61 (h_kx hE19 (h_kx hE14 hc1_0 (by decide)) (by decide))) trivial k) ?_
    have hP23 : h_P D23 := hP19.set eD23 (hkge_61 (h_kx hE19 (h_kx hE14 hc1_0 (by decide)) (by decide))) (by decide) (hPn (h_kx hE19 (h_kx hE14 hc1_0 (by decide)) (by decide)) rfl)
    have hE23 : h_E D19 D23 := h_E_set eD23 (by decide)
    obtain ⟨rfl, rfl⟩ := ga_end h
    exact hw_ret hP23 (x_aret dJ4_entrySet_26 rfl (by first | exact Or.inl ⟨_, rfl⟩ | exact Or.inr ⟨_, rfl⟩) hq)
  · rw [if_neg c6] at h
    refine hw_1 (fun k => x_ifnull (tgt := 13) dJ4_entrySet_6 (by decide) (fun z => absurd z c6) (fun _ => k)) ?_
    refine hw_1 (fun k => x_aload_n dJ4_entrySet_9 rfl k) ?_
    refine hw_1 (fun k => x_goto (tgt := 26) dJ4_entrySet_10 (by decide) k) ?_
    obtain ⟨rfl, rfl⟩ := ga_end h
    exact hw_ret hP (x_aret dJ4_entrySet_26 rfl (by first | exact Or.inl ⟨_, rfl⟩ | exact Or.inr ⟨_, rfl⟩) hq)
theorem h_J4_fixAfterDeletion_j345_ok {G : aw_G} {M0 : aw_M} {D' : ga_D} {Q : Option aw_V → aw_M → Prop} {r : Int} (hq : Q none (hM D')) {x1 : Int} {D : ga_D} (hP : h_P D) (h : h_J4_fixAfterDeletion_j345 x1 D = some (r, D')) : aw_HW G "java/util/TreeMap" cJ4_fixAfterDeletion none 3 1 false M0 Q aw_no D' (hn D') (hsl D') 345 [(1, (2, x1))] [] D := by
  unfold h_J4_fixAfterDeletion_j345 at h
  refine hw_1 (fun k => x_aload_n dJ4_fixAfterDeletion_345 rfl k) ?_
  refine hw_1 (fun k => x_iconst dJ4_fixAfterDeletion_346 (by decide) k) ?_
  replace h := ga_bind_some h; obtain ⟨r347, D347, g347, h⟩ := h
  have hR347 := (h_J4_setColor_ok (G := G) hP g347)
  obtain ⟨hP347, hE347, -⟩ := id hR347
  refine hw_call (rest := []) hR347 (fun hc hk9 => x_callS (as := [(2, x1), (0, 1)]) (rest := []) dJ4_fixAfterDeletion_347 hc (lw_S q4303 q4304 q403 q4305) (show _ ∧ _ ∧ _ = some 2 from by decide +kernel) (by decide) (by decide) rfl (Nat.le_of_ble_eq_true rfl) hk9 aw_nox) ?_
  obtain ⟨rfl, rfl⟩ := ga_end h
  exact hw_ret hP347 (x_vret dJ4_fixAfterDeletion_350 rfl hq)
theorem h_J4_fixAfterDeletion_j302_ok {G : aw_G} {M0 : aw_M} {D' : ga_D} {Q : Option aw_V → aw_M → Prop} {r : Int} (hq : Q none (hM D')) {k0 : Int → Int → ga_D → ga_S} (hk0 : ∀ (x0 x1 : Int) (D : ga_D), h_P D → k0 x0 x1 D = some (r, D') → aw_HW G "java/util/TreeMap" cJ4_fixAfterDeletion none 3 1 false M0 Q aw_no D' (hn D') (hsl D') 0 [(0, (2, x0)), (1, (2, x1))] [] D) {x0 x1 x2 : Int} {D : ga_D} (hP : h_P D) (h : h_J4_fixAfterDeletion_j302 x0 x1 x2 D k0 = some (r, D')) : aw_HW G "java/util/TreeMap" cJ4_fixAfterDeletion none 3 1 false M0 Q aw_no D' (hn D') (hsl D') 302 [(0, (2, x0)), (1, (2, x1)), (2, (2, x2))] [] D := by
  unfold h_J4_fixAfterDeletion_j302 at h
  refine hw_1 (fun k => x_aload_n dJ4_fixAfterDeletion_302 rfl k) ?_
  refine hw_1 (fun k => x_aload_n dJ4_fixAfterDeletion_303 rfl k) ?_
  replace h := ga_bind_some h; obtain ⟨r304, D304, g304, h⟩ := h
  have hR304 := (h_J4_parentOf_ok (G := G) hP g304)
  obtain ⟨hP304, hE304, -⟩ := id hR304
  refine hw_call (rest := [(2, x2)]) hR304 (fun hc hk9 => x_callS (as := [(2, x1)]) (rest := [(2, x2)]) dJ4_fixAfterDeletion_304 hc (lw_S q4291 q4292 q403 q4293) (show _ ∧ _ ∧ _ = some 1 from by decide +kernel) (by decide) (by decide) rfl (Nat.le_of_ble_eq_true rfl) hk9 aw_nox) ?_
  replace h := ga_bind_some h; obtain ⟨r307, D307, g307, h⟩ := h
  have hR307 := (h_J4_colorOf_ok (G := G) hP304 g307)
  obtain ⟨hP307, hE307, -⟩ := id hR307
  refine hw_call (rest := [(2, x2)]) hR307 (fun hc hk9 => x_callS (as := [(2, r304)]) (rest := [(2, x2)]) dJ4_fixAfterDeletion_307 hc (lw_S q4300 q4301 q403 q4302) (show _ ∧ _ ∧ _ = some 1 from by decide +kernel) (by decide) (by decide) rfl (Nat.le_of_ble_eq_true rfl) hk9 aw_nox) ?_
  replace h := ga_bind_some h; obtain ⟨r310, D310, g310, h⟩ := h
  have hR310 := (h_J4_setColor_ok (G := G) hP307 g310)
  obtain ⟨hP310, hE310, -⟩ := id hR310
  refine hw_call (rest := []) hR310 (fun hc hk9 => x_callS (as := [(2, x2), (0, r307)]) (rest := []) dJ4_fixAfterDeletion_310 hc (lw_S q4303 q4304 q403 q4305) (show _ ∧ _ ∧ _ = some 2 from by decide +kernel) (by decide) (by decide) rfl (Nat.le_of_ble_eq_true rfl) hk9 aw_nox) ?_
  refine hw_1 (fun k => x_aload_n dJ4_fixAfterDeletion_313 rfl k) ?_
  replace h := ga_bind_some h; obtain ⟨r314, D314, g314, h⟩ := h
  have hR314 := (h_J4_parentOf_ok (G := G) hP310 g314)
  obtain ⟨hP314, hE314, -⟩ := id hR314
  refine hw_call (rest := []) hR314 (fun hc hk9 => x_callS (as := [(2, x1)]) (rest := []) dJ4_fixAfterDeletion_314 hc (lw_S q4291 q4292 q403 q4293) (show _ ∧ _ ∧ _ = some 1 from by decide +kernel) (by decide) (by decide) rfl (Nat.le_of_ble_eq_true rfl) hk9 aw_nox) ?_
  refine hw_1 (fun k => x_iconst dJ4_fixAfterDeletion_317 (by decide) k) ?_
  replace h := ga_bind_some h; obtain ⟨r318, D318, g318, h⟩ := h
  have hR318 := (h_J4_setColor_ok (G := G) hP314 g318)
  obtain ⟨hP318, hE318, -⟩ := id hR318
  refine hw_call (rest := []) hR318 (fun hc hk9 => x_callS (as := [(2, r314), (0, 1)]) (rest := []) dJ4_fixAfterDeletion_318 hc (lw_S q4303 q4304 q403 q4305) (show _ ∧ _ ∧ _ = some 2 from by decide +kernel) (by decide) (by decide) rfl (Nat.le_of_ble_eq_true rfl) hk9 aw_nox) ?_
  refine hw_1 (fun k => x_aload_n dJ4_fixAfterDeletion_321 rfl k) ?_
  replace h := ga_bind_some h; obtain ⟨r322, D322, g322, h⟩ := h
  have hR322 := (h_J4_leftOf_ok (G := G) hP318 g322)
  obtain ⟨hP322, hE322, -⟩ := id hR322
  refine hw_call (rest := []) hR322 (fun hc hk9 => x_callS (as := [(2, x2)]) (rest := []) dJ4_fixAfterDeletion_322 hc (lw_S q4294 q4295 q403 q4296) (show _ ∧ _ ∧ _ = some 1 from by decide +kernel) (by decide) (by decide) rfl (Nat.le_of_ble_eq_true rfl) hk9 aw_nox) ?_
  refine hw_1 (fun k => x_iconst dJ4_fixAfterDeletion_325 (by decide) k) ?_
  replace h := ga_bind_some h; obtain ⟨r326, D326, g326, h⟩ := h
  have hR326 := (h_J4_setColor_ok (G := G) hP322 g326)
  obtain ⟨hP326, hE326, -⟩ := id hR326
  refine hw_call (rest := []) hR326 (fun hc hk9 => x_callS (as := [(2, r322), (0, 1)]) (rest := []) dJ4_fixAfterDeletion_326 hc (lw_S q4303 q4304 q403 q4305) (show _ ∧ _ ∧ _ = some 2 from by decide +kernel) (by decide) (by decide) rfl (Nat.le_of_ble_eq_true rfl) hk9 aw_nox) ?_
  refine hw_1 (fun k => x_aload_n dJ4_fixAfterDeletion_329 rfl k) ?_
  refine hw_1 (fun k => x_aload_n dJ4_fixAfterDeletion_330 rfl k) ?_
  replace h := ga_bind_some h; obtain ⟨r331, D331, g331, h⟩ := h
  have hR331 := (h_J4_parentOf_ok (G := G) hP326 g331)
  obtain ⟨hP331, hE331, -⟩ := id hR331
  refine hw_call (rest := [(2, x0)]) hR331 (fun hc hk9 => x_callS (as := [(2, x1)]) (rest := [(2, x0)]) dJ4_fixAfterDeletion_331 hc (lw_S q4291 q4292 q403 q4293) (show _ ∧ _ ∧ _ = some 1 from by decide +kernel) (by decide) (by decide) rfl (Nat.le_of_ble_eq_true rfl) hk9 aw_nox) ?_
  replace h := ga_ck_some h; obtain ⟨hc334_0, h⟩ := h
  replace h := ga_bind_some h; obtain ⟨r334, D334, g334, h⟩ := h
  have hR334 := (h_J4_rotateRight_ok (G := G) hP331 g334)
  obtain ⟨hP334, hE334, -⟩ := id hR334
  refine hw_call (rest := []) hR334 (fun hc hk9 => x_callV (as := [(2, r331)]) (rest := []) dJ4_fixAfterDeletion_334 hc (lw_V q4310 q4312 qs40 q403 q4313) hc334_0 rfl rfl (show _ ∧ _ ∧ _ ∧ _ = some 1 from by decide +kernel) (by decide) (by decide) rfl (Nat.le_of_ble_eq_true rfl) hk9 aw_nox) ?_
  refine hw_1 (fun k => x_aload_n dJ4_fixAfterDeletion_337 rfl k) ?_
  refine hw_1 (fun k => x_getf (v := D334 x0 3) dJ4_fixAfterDeletion_338 fl_J4_101 (h_kx hE334 hc334_0 (by decide)) rfl k) ?_
  replace h := ga_let_some h; obtain ⟨v341, ev341, h⟩ := h
  refine hw_nm ev341 ?_
  refine hw_1 (fun k => x_astore_n (ls' := [(1, (2, v341)), (0, (2, x0)), (2, (2, x2))]) dJ4_fixAfterDeletion_341 (by decide) rfl k) ?_
  refine hw_1 (fun k => x_goto (tgt := 0) dJ4_fixAfterDeletion_342 (by decide) k) ?_
  refine hw_locs [1, 0] (ls' := [(0, (2, x0)), (1, (2, v341))]) rfl ?_
  exact hk0 _ _ _ hP334 h
theorem h_J4_fixAfterDeletion_j265_ok {G : aw_G} {M0 : aw_M} {D' : ga_D} {Q : Option aw_V → aw_M → Prop} {r : Int} (hq : Q none (hM D')) {k0 : Int → Int → ga_D → ga_S} (hk0 : ∀ (x0 x1 : Int) (D : ga_D), h_P D → k0 x0 x1 D = some (r, D') → aw_HW G "java/util/TreeMap" cJ4_fixAfterDeletion none 3 1 false M0 Q aw_no D' (hn D') (hsl D') 0 [(0, (2, x0)), (1, (2, x1))] [] D) {x0 x1 x2 : Int} {D : ga_D} (hP : h_P D) (h : h_J4_fixAfterDeletion_j265 x0 x1 x2 D k0 = some (r, D')) : aw_HW G "java/util/TreeMap" cJ4_fixAfterDeletion none 3 1 false M0 Q aw_no D' (hn D') (hsl D') 265 [(0, (2, x0)), (1, (2, x1)), (2, (2, x2))] [] D := by
  unfold h_J4_fixAfterDeletion_j265 at h
  refine hw_1 (fun k => x_aload_n dJ4_fixAfterDeletion_265 rfl k) ?_
  replace h := ga_bind_some h; obtain ⟨r266, D266, g266, h⟩ := h
  have hR266 := (h_J4_leftOf_ok (G := G) hP g266)
  obtain ⟨hP266, hE266, -⟩ := id hR266
  refine hw_call (rest := []) hR266 (fun hc hk9 => x_callS (as := [(2, x2)]) (rest := []) dJ4_fixAfterDeletion_266 hc (lw_S q4294 q4295 q403 q4296) (show _ ∧ _ ∧ _ = some 1 from by decide +kernel) (by decide) (by decide) rfl (Nat.le_of_ble_eq_true rfl) hk9 aw_nox) ?_
  replace h := ga_bind_some h; obtain ⟨r269, D269, g269, h⟩ := h
  have hR269 := (h_J4_colorOf_ok (G := G) hP266 g269)
  obtain ⟨hP269, hE269, -⟩ := id hR269
  refine hw_call (rest := []) hR269 (fun hc hk9 => x_callS (as := [(2, r266)]) (rest := []) dJ4_fixAfterDeletion_269 hc (lw_S q4300 q4301 q403 q4302) (show _ ∧ _ ∧ _ = some 1 from by decide +kernel) (by decide) (by decide) rfl (Nat.le_of_ble_eq_true rfl) hk9 aw_nox) ?_
  refine hw_1 (fun k => x_iconst dJ4_fixAfterDeletion_272 (by decide) k) ?_
  by_cases c273 : r269 ≠ 1
  · rw [if_pos c273] at h
    refine hw_1 (fun k => x_icmp_ne (tgt := 302) dJ4_fixAfterDeletion_273 (by decide) (fun _ => k) (fun z => absurd c273 z)) ?_
    refine h_J4_fixAfterDeletion_j302_ok hq (fun x0 x1 D0 hP h => ?_) hP269 h
    · exact hk0 _ _ _ hP h
  · rw [if_neg c273] at h
    refine hw_1 (fun k => x_icmp_ne (tgt := 302) dJ4_fixAfterDeletion_273 (by decide) (fun z => absurd z c273) (fun _ => k)) ?_
    refine hw_1 (fun k => x_aload_n dJ4_fixAfterDeletion_276 rfl k) ?_
    replace h := ga_bind_some h; obtain ⟨r277, D277, g277, h⟩ := h
    have hR277 := (h_J4_rightOf_ok (G := G) hP269 g277)
    obtain ⟨hP277, hE277, -⟩ := id hR277
    refine hw_call (rest := []) hR277 (fun hc hk9 => x_callS (as := [(2, x2)]) (rest := []) dJ4_fixAfterDeletion_277 hc (lw_S q4297 q4298 q403 q4299) (show _ ∧ _ ∧ _ = some 1 from by decide +kernel) (by decide) (by decide) rfl (Nat.le_of_ble_eq_true rfl) hk9 aw_nox) ?_
    refine hw_1 (fun k => x_iconst dJ4_fixAfterDeletion_280 (by decide) k) ?_
    replace h := ga_bind_some h; obtain ⟨r281, D281, g281, h⟩ := h
    have hR281 := (h_J4_setColor_ok (G := G) hP277 g281)
    obtain ⟨hP281, hE281, -⟩ := id hR281
    refine hw_call (rest := []) hR281 (fun hc hk9 => x_callS (as := [(2, r277), (0, 1)]) (rest := []) dJ4_fixAfterDeletion_281 hc (lw_S q4303 q4304 q403 q4305) (show _ ∧ _ ∧ _ = some 2 from by decide +kernel) (by decide) (by decide) rfl (Nat.le_of_ble_eq_true rfl) hk9 aw_nox) ?_
    refine hw_1 (fun k => x_aload_n dJ4_fixAfterDeletion_284 rfl k) ?_
    refine hw_1 (fun k => x_iconst dJ4_fixAfterDeletion_285 (by decide) k) ?_
    replace h := ga_bind_some h; obtain ⟨r286, D286, g286, h⟩ := h
    have hR286 := (h_J4_setColor_ok (G := G) hP281 g286)
    obtain ⟨hP286, hE286, -⟩ := id hR286
    refine hw_call (rest := []) hR286 (fun hc hk9 => x_callS (as := [(2, x2), (0, 0)]) (rest := []) dJ4_fixAfterDeletion_286 hc (lw_S q4303 q4304 q403 q4305) (show _ ∧ _ ∧ _ = some 2 from by decide +kernel) (by decide) (by decide) rfl (Nat.le_of_ble_eq_true rfl) hk9 aw_nox) ?_
    refine hw_1 (fun k => x_aload_n dJ4_fixAfterDeletion_289 rfl k) ?_
    refine hw_1 (fun k => x_aload_n dJ4_fixAfterDeletion_290 rfl k) ?_
    replace h := ga_ck_some h; obtain ⟨hc291_0, h⟩ := h
    replace h := ga_bind_some h; obtain ⟨r291, D291, g291, h⟩ := h
    have hR291 := (h_J4_rotateLeft_ok (G := G) hP286 g291)
    obtain ⟨hP291, hE291, -⟩ := id hR291
    refine hw_call (rest := []) hR291 (fun hc hk9 => x_callV (as := [(2, x2)]) (rest := []) dJ4_fixAfterDeletion_291 hc (lw_V q4306 q4308 qs39 q403 q4309) hc291_0 rfl rfl (show _ ∧ _ ∧ _ ∧ _ = some 1 from by decide +kernel) (by decide) (by decide) rfl (Nat.le_of_ble_eq_true rfl) hk9 aw_nox) ?_
    refine hw_1 (fun k => x_aload_n dJ4_fixAfterDeletion_294 rfl k) ?_
    replace h := ga_bind_some h; obtain ⟨r295, D295, g295, h⟩ := h
    have hR295 := (h_J4_parentOf_ok (G := G) hP291 g295)
    obtain ⟨hP295, hE295, -⟩ := id hR295
    refine hw_call (rest := []) hR295 (fun hc hk9 => x_callS (as := [(2, x1)]) (rest := []) dJ4_fixAfterDeletion_295 hc (lw_S q4291 q4292 q403 q4293) (show _ ∧ _ ∧ _ = some 1 from by decide +kernel) (by decide) (by decide) rfl (Nat.le_of_ble_eq_true rfl) hk9 aw_nox) ?_
    replace h := ga_bind_some h; obtain ⟨r298, D298, g298, h⟩ := h
    have hR298 := (h_J4_leftOf_ok (G := G) hP295 g298)
    obtain ⟨hP298, hE298, -⟩ := id hR298
    refine hw_call (rest := []) hR298 (fun hc hk9 => x_callS (as := [(2, r295)]) (rest := []) dJ4_fixAfterDeletion_298 hc (lw_S q4294 q4295 q403 q4296) (show _ ∧ _ ∧ _ = some 1 from by decide +kernel) (by decide) (by decide) rfl (Nat.le_of_ble_eq_true rfl) hk9 aw_nox) ?_
    refine hw_1 (fun k => x_astore_n (ls' := [(2, (2, r298)), (0, (2, x0)), (1, (2, x1))]) dJ4_fixAfterDeletion_301 (by decide) rfl k) ?_
    refine hw_locs [1, 2, 0] (ls' := [(0, (2, x0)), (1, (2, x1)), (2, (2, r298))]) rfl ?_
    refine h_J4_fixAfterDeletion_j302_ok hq (fun x0 x1 D0 hP h => ?_) hP298 h
    · exact hk0 _ _ _ hP h
theorem h_J4_fixAfterDeletion_j230_ok {G : aw_G} {M0 : aw_M} {D' : ga_D} {Q : Option aw_V → aw_M → Prop} {r : Int} (hq : Q none (hM D')) {k0 : Int → Int → ga_D → ga_S} (hk0 : ∀ (x0 x1 : Int) (D : ga_D), h_P D → k0 x0 x1 D = some (r, D') → aw_HW G "java/util/TreeMap" cJ4_fixAfterDeletion none 3 1 false M0 Q aw_no D' (hn D') (hsl D') 0 [(0, (2, x0)), (1, (2, x1))] [] D) {x0 x1 x2 : Int} {D : ga_D} (hP : h_P D) (h : h_J4_fixAfterDeletion_j230 x0 x1 x2 D k0 = some (r, D')) : aw_HW G "java/util/TreeMap" cJ4_fixAfterDeletion none 3 1 false M0 Q aw_no D' (hn D') (hsl D') 230 [(0, (2, x0)), (1, (2, x1)), (2, (2, x2))] [] D := by
  unfold h_J4_fixAfterDeletion_j230 at h
  refine hw_1 (fun k => x_aload_n dJ4_fixAfterDeletion_230 rfl k) ?_
  replace h := ga_bind_some h; obtain ⟨r231, D231, g231, h⟩ := h
  have hR231 := (h_J4_rightOf_ok (G := G) hP g231)
  obtain ⟨hP231, hE231, -⟩ := id hR231
  refine hw_call (rest := []) hR231 (fun hc hk9 => x_callS (as := [(2, x2)]) (rest := []) dJ4_fixAfterDeletion_231 hc (lw_S q4297 q4298 q403 q4299) (show _ ∧ _ ∧ _ = some 1 from by decide +kernel) (by decide) (by decide) rfl (Nat.le_of_ble_eq_true rfl) hk9 aw_nox) ?_
  replace h := ga_bind_some h; obtain ⟨r234, D234, g234, h⟩ := h
  have hR234 := (h_J4_colorOf_ok (G := G) hP231 g234)
  obtain ⟨hP234, hE234, -⟩ := id hR234
  refine hw_call (rest := []) hR234 (fun hc hk9 => x_callS (as := [(2, r231)]) (rest := []) dJ4_fixAfterDeletion_234 hc (lw_S q4300 q4301 q403 q4302) (show _ ∧ _ ∧ _ = some 1 from by decide +kernel) (by decide) (by decide) rfl (Nat.le_of_ble_eq_true rfl) hk9 aw_nox) ?_
  refine hw_1 (fun k => x_iconst dJ4_fixAfterDeletion_237 (by decide) k) ?_
  by_cases c238 : r234 ≠ 1
  · rw [if_pos c238] at h
    refine hw_1 (fun k => x_icmp_ne (tgt := 265) dJ4_fixAfterDeletion_238 (by decide) (fun _ => k) (fun z => absurd c238 z)) ?_
    refine h_J4_fixAfterDeletion_j265_ok hq (fun x0 x1 D0 hP h => ?_) hP234 h
    · exact hk0 _ _ _ hP h
  · rw [if_neg c238] at h
    refine hw_1 (fun k => x_icmp_ne (tgt := 265) dJ4_fixAfterDeletion_238 (by decide) (fun z => absurd z c238) (fun _ => k)) ?_
    refine hw_1 (fun k => x_aload_n dJ4_fixAfterDeletion_241 rfl k) ?_
    replace h := ga_bind_some h; obtain ⟨r242, D242, g242, h⟩ := h
    have hR242 := (h_J4_leftOf_ok (G := G) hP234 g242)
    obtain ⟨hP242, hE242, -⟩ := id hR242
    refine hw_call (rest := []) hR242 (fun hc hk9 => x_callS (as := [(2, x2)]) (rest := []) dJ4_fixAfterDeletion_242 hc (lw_S q4294 q4295 q403 q4296) (show _ ∧ _ ∧ _ = some 1 from by decide +kernel) (by decide) (by decide) rfl (Nat.le_of_ble_eq_true rfl) hk9 aw_nox) ?_
    replace h := ga_bind_some h; obtain ⟨r245, D245, g245, h⟩ := h
    have hR245 := (h_J4_colorOf_ok (G := G) hP242 g245)
    obtain ⟨hP245, hE245, -⟩ := id hR245
    refine hw_call (rest := []) hR245 (fun hc hk9 => x_callS (as := [(2, r242)]) (rest := []) dJ4_fixAfterDeletion_245 hc (lw_S q4300 q4301 q403 q4302) (show _ ∧ _ ∧ _ = some 1 from by decide +kernel) (by decide) (by decide) rfl (Nat.le_of_ble_eq_true rfl) hk9 aw_nox) ?_
    refine hw_1 (fun k => x_iconst dJ4_fixAfterDeletion_248 (by decide) k) ?_
    by_cases c249 : r245 ≠ 1
    · rw [if_pos c249] at h
      refine hw_1 (fun k => x_icmp_ne (tgt := 265) dJ4_fixAfterDeletion_249 (by decide) (fun _ => k) (fun z => absurd c249 z)) ?_
      refine h_J4_fixAfterDeletion_j265_ok hq (fun x0 x1 D0 hP h => ?_) hP245 h
      · exact hk0 _ _ _ hP h
    · rw [if_neg c249] at h
      refine hw_1 (fun k => x_icmp_ne (tgt := 265) dJ4_fixAfterDeletion_249 (by decide) (fun z => absurd z c249) (fun _ => k)) ?_
      refine hw_1 (fun k => x_aload_n dJ4_fixAfterDeletion_252 rfl k) ?_
      refine hw_1 (fun k => x_iconst dJ4_fixAfterDeletion_253 (by decide) k) ?_
      replace h := ga_bind_some h; obtain ⟨r254, D254, g254, h⟩ := h
      have hR254 := (h_J4_setColor_ok (G := G) hP245 g254)
      obtain ⟨hP254, hE254, -⟩ := id hR254
      refine hw_call (rest := []) hR254 (fun hc hk9 => x_callS (as := [(2, x2), (0, 0)]) (rest := []) dJ4_fixAfterDeletion_254 hc (lw_S q4303 q4304 q403 q4305) (show _ ∧ _ ∧ _ = some 2 from by decide +kernel) (by decide) (by decide) rfl (Nat.le_of_ble_eq_true rfl) hk9 aw_nox) ?_
      refine hw_1 (fun k => x_aload_n dJ4_fixAfterDeletion_257 rfl k) ?_
      replace h := ga_bind_some h; obtain ⟨r258, D258, g258, h⟩ := h
      have hR258 := (h_J4_parentOf_ok (G := G) hP254 g258)
      obtain ⟨hP258, hE258, -⟩ := id hR258
      refine hw_call (rest := []) hR258 (fun hc hk9 => x_callS (as := [(2, x1)]) (rest := []) dJ4_fixAfterDeletion_258 hc (lw_S q4291 q4292 q403 q4293) (show _ ∧ _ ∧ _ = some 1 from by decide +kernel) (by decide) (by decide) rfl (Nat.le_of_ble_eq_true rfl) hk9 aw_nox) ?_
      refine hw_1 (fun k => x_astore_n (ls' := [(1, (2, r258)), (0, (2, x0)), (2, (2, x2))]) dJ4_fixAfterDeletion_261 (by decide) rfl k) ?_
      refine hw_1 (fun k => x_goto (tgt := 342) dJ4_fixAfterDeletion_262 (by decide) k) ?_
      refine hw_1 (fun k => x_goto (tgt := 0) dJ4_fixAfterDeletion_342 (by decide) k) ?_
      refine hw_locs [1, 0] (ls' := [(0, (2, x0)), (1, (2, r258))]) rfl ?_
      exact hk0 _ _ _ hP258 h
theorem h_J4_fixAfterDeletion_j143_ok {G : aw_G} {M0 : aw_M} {D' : ga_D} {Q : Option aw_V → aw_M → Prop} {r : Int} (hq : Q none (hM D')) {k0 : Int → Int → ga_D → ga_S} (hk0 : ∀ (x0 x1 : Int) (D : ga_D), h_P D → k0 x0 x1 D = some (r, D') → aw_HW G "java/util/TreeMap" cJ4_fixAfterDeletion none 3 1 false M0 Q aw_no D' (hn D') (hsl D') 0 [(0, (2, x0)), (1, (2, x1))] [] D) {x0 x1 x2 : Int} {D : ga_D} (hP : h_P D) (h : h_J4_fixAfterDeletion_j143 x0 x1 x2 D k0 = some (r, D')) : aw_HW G "java/util/TreeMap" cJ4_fixAfterDeletion none 3 1 false M0 Q aw_no D' (hn D') (hsl D') 143 [(0, (2, x0)), (1, (2, x1)), (2, (2, x2))] [] D := by
  unfold h_J4_fixAfterDeletion_j143 at h
  refine hw_1 (fun k => x_aload_n dJ4_fixAfterDeletion_143 rfl k) ?_
  refine hw_1 (fun k => x_aload_n dJ4_fixAfterDeletion_144 rfl k) ?_
  replace h := ga_bind_some h; obtain ⟨r145, D145, g145, h⟩ := h
  have hR145 := (h_J4_parentOf_ok (G := G) hP g145)
  obtain ⟨hP145, hE145, -⟩ := id hR145
  refine hw_call (rest := [(2, x2)]) hR145 (fun hc hk9 => x_callS (as := [(2, x1)]) (rest := [(2, x2)]) dJ4_fixAfterDeletion_145 hc (lw_S q4291 q4292 q403 q4293) (show _ ∧ _ ∧ _ = some 1 from by decide +kernel) (by decide) (by decide) rfl (Nat.le_of_ble_eq_true rfl) hk9 aw_nox) ?_
  replace h := ga_bind_some h; obtain ⟨r148, D148, g148, h⟩ := h
  have hR148 := (h_J4_colorOf_ok (G := G) hP145 g148)
  obtain ⟨hP148, hE148, -⟩ := id hR148
  refine hw_call (rest := [(2, x2)]) hR148 (fun hc hk9 => x_callS (as := [(2, r145)]) (rest := [(2, x2)]) dJ4_fixAfterDeletion_148 hc (lw_S q4300 q4301 q403 q4302) (show _ ∧ _ ∧ _ = some 1 from by decide +kernel) (by decide) (by decide) rfl (Nat.le_of_ble_eq_true rfl) hk9 aw_nox) ?_
  replace h := ga_bind_some h; obtain ⟨r151, D151, g151, h⟩ := h
  have hR151 := (h_J4_setColor_ok (G := G) hP148 g151)
  obtain ⟨hP151, hE151, -⟩ := id hR151
  refine hw_call (rest := []) hR151 (fun hc hk9 => x_callS (as := [(2, x2), (0, r148)]) (rest := []) dJ4_fixAfterDeletion_151 hc (lw_S q4303 q4304 q403 q4305) (show _ ∧ _ ∧ _ = some 2 from by decide +kernel) (by decide) (by decide) rfl (Nat.le_of_ble_eq_true rfl) hk9 aw_nox) ?_
  refine hw_1 (fun k => x_aload_n dJ4_fixAfterDeletion_154 rfl k) ?_
  replace h := ga_bind_some h; obtain ⟨r155, D155, g155, h⟩ := h
  have hR155 := (h_J4_parentOf_ok (G := G) hP151 g155)
  obtain ⟨hP155, hE155, -⟩ := id hR155
  refine hw_call (rest := []) hR155 (fun hc hk9 => x_callS (as := [(2, x1)]) (rest := []) dJ4_fixAfterDeletion_155 hc (lw_S q4291 q4292 q403 q4293) (show _ ∧ _ ∧ _ = some 1 from by decide +kernel) (by decide) (by decide) rfl (Nat.le_of_ble_eq_true rfl) hk9 aw_nox) ?_
  refine hw_1 (fun k => x_iconst dJ4_fixAfterDeletion_158 (by decide) k) ?_
  replace h := ga_bind_some h; obtain ⟨r159, D159, g159, h⟩ := h
  have hR159 := (h_J4_setColor_ok (G := G) hP155 g159)
  obtain ⟨hP159, hE159, -⟩ := id hR159
  refine hw_call (rest := []) hR159 (fun hc hk9 => x_callS (as := [(2, r155), (0, 1)]) (rest := []) dJ4_fixAfterDeletion_159 hc (lw_S q4303 q4304 q403 q4305) (show _ ∧ _ ∧ _ = some 2 from by decide +kernel) (by decide) (by decide) rfl (Nat.le_of_ble_eq_true rfl) hk9 aw_nox) ?_
  refine hw_1 (fun k => x_aload_n dJ4_fixAfterDeletion_162 rfl k) ?_
  replace h := ga_bind_some h; obtain ⟨r163, D163, g163, h⟩ := h
  have hR163 := (h_J4_rightOf_ok (G := G) hP159 g163)
  obtain ⟨hP163, hE163, -⟩ := id hR163
  refine hw_call (rest := []) hR163 (fun hc hk9 => x_callS (as := [(2, x2)]) (rest := []) dJ4_fixAfterDeletion_163 hc (lw_S q4297 q4298 q403 q4299) (show _ ∧ _ ∧ _ = some 1 from by decide +kernel) (by decide) (by decide) rfl (Nat.le_of_ble_eq_true rfl) hk9 aw_nox) ?_
  refine hw_1 (fun k => x_iconst dJ4_fixAfterDeletion_166 (by decide) k) ?_
  replace h := ga_bind_some h; obtain ⟨r167, D167, g167, h⟩ := h
  have hR167 := (h_J4_setColor_ok (G := G) hP163 g167)
  obtain ⟨hP167, hE167, -⟩ := id hR167
  refine hw_call (rest := []) hR167 (fun hc hk9 => x_callS (as := [(2, r163), (0, 1)]) (rest := []) dJ4_fixAfterDeletion_167 hc (lw_S q4303 q4304 q403 q4305) (show _ ∧ _ ∧ _ = some 2 from by decide +kernel) (by decide) (by decide) rfl (Nat.le_of_ble_eq_true rfl) hk9 aw_nox) ?_
  refine hw_1 (fun k => x_aload_n dJ4_fixAfterDeletion_170 rfl k) ?_
  refine hw_1 (fun k => x_aload_n dJ4_fixAfterDeletion_171 rfl k) ?_
  replace h := ga_bind_some h; obtain ⟨r172, D172, g172, h⟩ := h
  have hR172 := (h_J4_parentOf_ok (G := G) hP167 g172)
  obtain ⟨hP172, hE172, -⟩ := id hR172
  refine hw_call (rest := [(2, x0)]) hR172 (fun hc hk9 => x_callS (as := [(2, x1)]) (rest := [(2, x0)]) dJ4_fixAfterDeletion_172 hc (lw_S q4291 q4292 q403 q4293) (show _ ∧ _ ∧ _ = some 1 from by decide +kernel) (by decide) (by decide) rfl (Nat.le_of_ble_eq_true rfl) hk9 aw_nox) ?_
  replace h := ga_ck_some h; obtain ⟨hc175_0, h⟩ := h
  replace h := ga_bind_some h; obtain ⟨r175, D175, g175, h⟩ := h
  have hR175 := (h_J4_rotateLeft_ok (G := G) hP172 g175)
  obtain ⟨hP175, hE175, -⟩ := id hR175
  refine hw_call (rest := []) hR175 (fun hc hk9 => x_callV (as := [(2, r172)]) (rest := []) dJ4_fixAfterDeletion_175 hc (lw_V q4306 q4308 qs39 q403 q4309) hc175_0 rfl rfl (show _ ∧ _ ∧ _ ∧ _ = some 1 from by decide +kernel) (by decide) (by decide) rfl (Nat.le_of_ble_eq_true rfl) hk9 aw_nox) ?_
  refine hw_1 (fun k => x_aload_n dJ4_fixAfterDeletion_178 rfl k) ?_
  refine hw_1 (fun k => x_getf (v := D175 x0 3) dJ4_fixAfterDeletion_179 fl_J4_101 (h_kx hE175 hc175_0 (by decide)) rfl k) ?_
  replace h := ga_let_some h; obtain ⟨v182, ev182, h⟩ := h
  refine hw_nm ev182 ?_
  refine hw_1 (fun k => x_astore_n (ls' := [(1, (2, v182)), (0, (2, x0)), (2, (2, x2))]) dJ4_fixAfterDeletion_182 (by decide) rfl k) ?_
  refine hw_1 (fun k => x_goto (tgt := 0) dJ4_fixAfterDeletion_183 (by decide) k) ?_
  refine hw_locs [1, 0] (ls' := [(0, (2, x0)), (1, (2, v182))]) rfl ?_
  exact hk0 _ _ _ hP175 h
theorem h_J4_fixAfterDeletion_j106_ok {G : aw_G} {M0 : aw_M} {D' : ga_D} {Q : Option aw_V → aw_M → Prop} {r : Int} (hq : Q none (hM D')) {k0 : Int → Int → ga_D → ga_S} (hk0 : ∀ (x0 x1 : Int) (D : ga_D), h_P D → k0 x0 x1 D = some (r, D') → aw_HW G "java/util/TreeMap" cJ4_fixAfterDeletion none 3 1 false M0 Q aw_no D' (hn D') (hsl D') 0 [(0, (2, x0)), (1, (2, x1))] [] D) {x0 x1 x2 : Int} {D : ga_D} (hP : h_P D) (h : h_J4_fixAfterDeletion_j106 x0 x1 x2 D k0 = some (r, D')) : aw_HW G "java/util/TreeMap" cJ4_fixAfterDeletion none 3 1 false M0 Q aw_no D' (hn D') (hsl D') 106 [(0, (2, x0)), (1, (2, x1)), (2, (2, x2))] [] D := by
  unfold h_J4_fixAfterDeletion_j106 at h
  refine hw_1 (fun k => x_aload_n dJ4_fixAfterDeletion_106 rfl k) ?_
  replace h := ga_bind_some h; obtain ⟨r107, D107, g107, h⟩ := h
  have hR107 := (h_J4_rightOf_ok (G := G) hP g107)
  obtain ⟨hP107, hE107, -⟩ := id hR107
  refine hw_call (rest := []) hR107 (fun hc hk9 => x_callS (as := [(2, x2)]) (rest := []) dJ4_fixAfterDeletion_107 hc (lw_S q4297 q4298 q403 q4299) (show _ ∧ _ ∧ _ = some 1 from by decide +kernel) (by decide) (by decide) rfl (Nat.le_of_ble_eq_true rfl) hk9 aw_nox) ?_
  replace h := ga_bind_some h; obtain ⟨r110, D110, g110, h⟩ := h
  have hR110 := (h_J4_colorOf_ok (G := G) hP107 g110)
  obtain ⟨hP110, hE110, -⟩ := id hR110
  refine hw_call (rest := []) hR110 (fun hc hk9 => x_callS (as := [(2, r107)]) (rest := []) dJ4_fixAfterDeletion_110 hc (lw_S q4300 q4301 q403 q4302) (show _ ∧ _ ∧ _ = some 1 from by decide +kernel) (by decide) (by decide) rfl (Nat.le_of_ble_eq_true rfl) hk9 aw_nox) ?_
  refine hw_1 (fun k => x_iconst dJ4_fixAfterDeletion_113 (by decide) k) ?_
  by_cases c114 : r110 ≠ 1
  · rw [if_pos c114] at h
    refine hw_1 (fun k => x_icmp_ne (tgt := 143) dJ4_fixAfterDeletion_114 (by decide) (fun _ => k) (fun z => absurd c114 z)) ?_
    refine h_J4_fixAfterDeletion_j143_ok hq (fun x0 x1 D0 hP h => ?_) hP110 h
    · exact hk0 _ _ _ hP h
  · rw [if_neg c114] at h
    refine hw_1 (fun k => x_icmp_ne (tgt := 143) dJ4_fixAfterDeletion_114 (by decide) (fun z => absurd z c114) (fun _ => k)) ?_
    refine hw_1 (fun k => x_aload_n dJ4_fixAfterDeletion_117 rfl k) ?_
    replace h := ga_bind_some h; obtain ⟨r118, D118, g118, h⟩ := h
    have hR118 := (h_J4_leftOf_ok (G := G) hP110 g118)
    obtain ⟨hP118, hE118, -⟩ := id hR118
    refine hw_call (rest := []) hR118 (fun hc hk9 => x_callS (as := [(2, x2)]) (rest := []) dJ4_fixAfterDeletion_118 hc (lw_S q4294 q4295 q403 q4296) (show _ ∧ _ ∧ _ = some 1 from by decide +kernel) (by decide) (by decide) rfl (Nat.le_of_ble_eq_true rfl) hk9 aw_nox) ?_
    refine hw_1 (fun k => x_iconst dJ4_fixAfterDeletion_121 (by decide) k) ?_
    replace h := ga_bind_some h; obtain ⟨r122, D122, g122, h⟩ := h
    have hR122 := (h_J4_setColor_ok (G := G) hP118 g122)
    obtain ⟨hP122, hE122, -⟩ := id hR122
    refine hw_call (rest := []) hR122 (fun hc hk9 => x_callS (as := [(2, r118), (0, 1)]) (rest := []) dJ4_fixAfterDeletion_122 hc (lw_S q4303 q4304 q403 q4305) (show _ ∧ _ ∧ _ = some 2 from by decide +kernel) (by decide) (by decide) rfl (Nat.le_of_ble_eq_true rfl) hk9 aw_nox) ?_
    refine hw_1 (fun k => x_aload_n dJ4_fixAfterDeletion_125 rfl k) ?_
    refine hw_1 (fun k => x_iconst dJ4_fixAfterDeletion_126 (by decide) k) ?_
    replace h := ga_bind_some h; obtain ⟨r127, D127, g127, h⟩ := h
    have hR127 := (h_J4_setColor_ok (G := G) hP122 g127)
    obtain ⟨hP127, hE127, -⟩ := id hR127
    refine hw_call (rest := []) hR127 (fun hc hk9 => x_callS (as := [(2, x2), (0, 0)]) (rest := []) dJ4_fixAfterDeletion_127 hc (lw_S q4303 q4304 q403 q4305) (show _ ∧ _ ∧ _ = some 2 from by decide +kernel) (by decide) (by decide) rfl (Nat.le_of_ble_eq_true rfl) hk9 aw_nox) ?_
    refine hw_1 (fun k => x_aload_n dJ4_fixAfterDeletion_130 rfl k) ?_
    refine hw_1 (fun k => x_aload_n dJ4_fixAfterDeletion_131 rfl k) ?_
    replace h := ga_ck_some h; obtain ⟨hc132_0, h⟩ := h
    replace h := ga_bind_some h; obtain ⟨r132, D132, g132, h⟩ := h
    have hR132 := (h_J4_rotateRight_ok (G := G) hP127 g132)
    obtain ⟨hP132, hE132, -⟩ := id hR132
    refine hw_call (rest := []) hR132 (fun hc hk9 => x_callV (as := [(2, x2)]) (rest := []) dJ4_fixAfterDeletion_132 hc (lw_V q4310 q4312 qs40 q403 q4313) hc132_0 rfl rfl (show _ ∧ _ ∧ _ ∧ _ = some 1 from by decide +kernel) (by decide) (by decide) rfl (Nat.le_of_ble_eq_true rfl) hk9 aw_nox) ?_
    refine hw_1 (fun k => x_aload_n dJ4_fixAfterDeletion_135 rfl k) ?_
    replace h := ga_bind_some h; obtain ⟨r136, D136, g136, h⟩ := h
    have hR136 := (h_J4_parentOf_ok (G := G) hP132 g136)
    obtain ⟨hP136, hE136, -⟩ := id hR136
    refine hw_call (rest := []) hR136 (fun hc hk9 => x_callS (as := [(2, x1)]) (rest := []) dJ4_fixAfterDeletion_136 hc (lw_S q4291 q4292 q403 q4293) (show _ ∧ _ ∧ _ = some 1 from by decide +kernel) (by decide) (by decide) rfl (Nat.le_of_ble_eq_true rfl) hk9 aw_nox) ?_
    replace h := ga_bind_some h; obtain ⟨r139, D139, g139, h⟩ := h
    have hR139 := (h_J4_rightOf_ok (G := G) hP136 g139)
    obtain ⟨hP139, hE139, -⟩ := id hR139
    refine hw_call (rest := []) hR139 (fun hc hk9 => x_callS (as := [(2, r136)]) (rest := []) dJ4_fixAfterDeletion_139 hc (lw_S q4297 q4298 q403 q4299) (show _ ∧ _ ∧ _ = some 1 from by decide +kernel) (by decide) (by decide) rfl (Nat.le_of_ble_eq_true rfl) hk9 aw_nox) ?_
    refine hw_1 (fun k => x_astore_n (ls' := [(2, (2, r139)), (0, (2, x0)), (1, (2, x1))]) dJ4_fixAfterDeletion_142 (by decide) rfl k) ?_
    refine hw_locs [1, 2, 0] (ls' := [(0, (2, x0)), (1, (2, x1)), (2, (2, r139))]) rfl ?_
    refine h_J4_fixAfterDeletion_j143_ok hq (fun x0 x1 D0 hP h => ?_) hP139 h
    · exact hk0 _ _ _ hP h
theorem h_J4_fixAfterDeletion_j71_ok {G : aw_G} {M0 : aw_M} {D' : ga_D} {Q : Option aw_V → aw_M → Prop} {r : Int} (hq : Q none (hM D')) {k0 : Int → Int → ga_D → ga_S} (hk0 : ∀ (x0 x1 : Int) (D : ga_D), h_P D → k0 x0 x1 D = some (r, D') → aw_HW G "java/util/TreeMap" cJ4_fixAfterDeletion none 3 1 false M0 Q aw_no D' (hn D') (hsl D') 0 [(0, (2, x0)), (1, (2, x1))] [] D) {x0 x1 x2 : Int} {D : ga_D} (hP : h_P D) (h : h_J4_fixAfterDeletion_j71 x0 x1 x2 D k0 = some (r, D')) : aw_HW G "java/util/TreeMap" cJ4_fixAfterDeletion none 3 1 false M0 Q aw_no D' (hn D') (hsl D') 71 [(0, (2, x0)), (1, (2, x1)), (2, (2, x2))] [] D := by
  unfold h_J4_fixAfterDeletion_j71 at h
  refine hw_1 (fun k => x_aload_n dJ4_fixAfterDeletion_71 rfl k) ?_
  replace h := ga_bind_some h; obtain ⟨r72, D72, g72, h⟩ := h
  have hR72 := (h_J4_leftOf_ok (G := G) hP g72)
  obtain ⟨hP72, hE72, -⟩ := id hR72
  refine hw_call (rest := []) hR72 (fun hc hk9 => x_callS (as := [(2, x2)]) (rest := []) dJ4_fixAfterDeletion_72 hc (lw_S q4294 q4295 q403 q4296) (show _ ∧ _ ∧ _ = some 1 from by decide +kernel) (by decide) (by decide) rfl (Nat.le_of_ble_eq_true rfl) hk9 aw_nox) ?_
  replace h := ga_bind_some h; obtain ⟨r75, D75, g75, h⟩ := h
  have hR75 := (h_J4_colorOf_ok (G := G) hP72 g75)
  obtain ⟨hP75, hE75, -⟩ := id hR75
  refine hw_call (rest := []) hR75 (fun hc hk9 => x_callS (as := [(2, r72)]) (rest := []) dJ4_fixAfterDeletion_75 hc (lw_S q4300 q4301 q403 q4302) (show _ ∧ _ ∧ _ = some 1 from by decide +kernel) (by decide) (by decide) rfl (Nat.le_of_ble_eq_true rfl) hk9 aw_nox) ?_
  refine hw_1 (fun k => x_iconst dJ4_fixAfterDeletion_78 (by decide) k) ?_
  by_cases c79 : r75 ≠ 1
  · rw [if_pos c79] at h
    refine hw_1 (fun k => x_icmp_ne (tgt := 106) dJ4_fixAfterDeletion_79 (by decide) (fun _ => k) (fun z => absurd c79 z)) ?_
    refine h_J4_fixAfterDeletion_j106_ok hq (fun x0 x1 D0 hP h => ?_) hP75 h
    · exact hk0 _ _ _ hP h
  · rw [if_neg c79] at h
    refine hw_1 (fun k => x_icmp_ne (tgt := 106) dJ4_fixAfterDeletion_79 (by decide) (fun z => absurd z c79) (fun _ => k)) ?_
    refine hw_1 (fun k => x_aload_n dJ4_fixAfterDeletion_82 rfl k) ?_
    replace h := ga_bind_some h; obtain ⟨r83, D83, g83, h⟩ := h
    have hR83 := (h_J4_rightOf_ok (G := G) hP75 g83)
    obtain ⟨hP83, hE83, -⟩ := id hR83
    refine hw_call (rest := []) hR83 (fun hc hk9 => x_callS (as := [(2, x2)]) (rest := []) dJ4_fixAfterDeletion_83 hc (lw_S q4297 q4298 q403 q4299) (show _ ∧ _ ∧ _ = some 1 from by decide +kernel) (by decide) (by decide) rfl (Nat.le_of_ble_eq_true rfl) hk9 aw_nox) ?_
    replace h := ga_bind_some h; obtain ⟨r86, D86, g86, h⟩ := h
    have hR86 := (h_J4_colorOf_ok (G := G) hP83 g86)
    obtain ⟨hP86, hE86, -⟩ := id hR86
    refine hw_call (rest := []) hR86 (fun hc hk9 => x_callS (as := [(2, r83)]) (rest := []) dJ4_fixAfterDeletion_86 hc (lw_S q4300 q4301 q403 q4302) (show _ ∧ _ ∧ _ = some 1 from by decide +kernel) (by decide) (by decide) rfl (Nat.le_of_ble_eq_true rfl) hk9 aw_nox) ?_
    refine hw_1 (fun k => x_iconst dJ4_fixAfterDeletion_89 (by decide) k) ?_
    by_cases c90 : r86 ≠ 1
    · rw [if_pos c90] at h
      refine hw_1 (fun k => x_icmp_ne (tgt := 106) dJ4_fixAfterDeletion_90 (by decide) (fun _ => k) (fun z => absurd c90 z)) ?_
      refine h_J4_fixAfterDeletion_j106_ok hq (fun x0 x1 D0 hP h => ?_) hP86 h
      · exact hk0 _ _ _ hP h
    · rw [if_neg c90] at h
      refine hw_1 (fun k => x_icmp_ne (tgt := 106) dJ4_fixAfterDeletion_90 (by decide) (fun z => absurd z c90) (fun _ => k)) ?_
      refine hw_1 (fun k => x_aload_n dJ4_fixAfterDeletion_93 rfl k) ?_
      refine hw_1 (fun k => x_iconst dJ4_fixAfterDeletion_94 (by decide) k) ?_
      replace h := ga_bind_some h; obtain ⟨r95, D95, g95, h⟩ := h
      have hR95 := (h_J4_setColor_ok (G := G) hP86 g95)
      obtain ⟨hP95, hE95, -⟩ := id hR95
      refine hw_call (rest := []) hR95 (fun hc hk9 => x_callS (as := [(2, x2), (0, 0)]) (rest := []) dJ4_fixAfterDeletion_95 hc (lw_S q4303 q4304 q403 q4305) (show _ ∧ _ ∧ _ = some 2 from by decide +kernel) (by decide) (by decide) rfl (Nat.le_of_ble_eq_true rfl) hk9 aw_nox) ?_
      refine hw_1 (fun k => x_aload_n dJ4_fixAfterDeletion_98 rfl k) ?_
      replace h := ga_bind_some h; obtain ⟨r99, D99, g99, h⟩ := h
      have hR99 := (h_J4_parentOf_ok (G := G) hP95 g99)
      obtain ⟨hP99, hE99, -⟩ := id hR99
      refine hw_call (rest := []) hR99 (fun hc hk9 => x_callS (as := [(2, x1)]) (rest := []) dJ4_fixAfterDeletion_99 hc (lw_S q4291 q4292 q403 q4293) (show _ ∧ _ ∧ _ = some 1 from by decide +kernel) (by decide) (by decide) rfl (Nat.le_of_ble_eq_true rfl) hk9 aw_nox) ?_
      refine hw_1 (fun k => x_astore_n (ls' := [(1, (2, r99)), (0, (2, x0)), (2, (2, x2))]) dJ4_fixAfterDeletion_102 (by decide) rfl k) ?_
      refine hw_1 (fun k => x_goto (tgt := 183) dJ4_fixAfterDeletion_103 (by decide) k) ?_
      refine hw_1 (fun k => x_goto (tgt := 0) dJ4_fixAfterDeletion_183 (by decide) k) ?_
      refine hw_locs [1, 0] (ls' := [(0, (2, x0)), (1, (2, r99))]) rfl ?_
      exact hk0 _ _ _ hP99 h
theorem h_J4_fixAfterDeletion_l0_ok {G : aw_G} {M0 : aw_M} {D' : ga_D} {Q : Option aw_V → aw_M → Prop} {r : Int} (hq : Q none (hM D')) {k345 : Int → ga_D → ga_S} (hk345 : ∀ (x1 : Int) (D : ga_D), h_P D → k345 x1 D = some (r, D') → aw_HW G "java/util/TreeMap" cJ4_fixAfterDeletion none 3 1 false M0 Q aw_no D' (hn D') (hsl D') 345 [(1, (2, x1))] [] D) : ∀ {n : Nat} {x0 x1 : Int} {D : ga_D}, h_P D → h_J4_fixAfterDeletion_l0 n x0 x1 D k345 = some (r, D') → aw_HW G "java/util/TreeMap" cJ4_fixAfterDeletion none 3 1 false M0 Q aw_no D' (hn D') (hsl D') 0 [(0, (2, x0)), (1, (2, x1))] [] D := by
  intro n
  induction n with
  | zero => intro x0 x1 D hP h; exact absurd (h : (none : ga_S) = some (r, D')) (by intro h; cases h)
  | succ n ih =>
    intro x0 x1 D hP h
    have ih : ∀ (x0 x1 : Int) (D : ga_D), h_P D → h_J4_fixAfterDeletion_l0 n x0 x1 D k345 = some (r, D') → aw_HW G "java/util/TreeMap" cJ4_fixAfterDeletion none 3 1 false M0 Q aw_no D' (hn D') (hsl D') 0 [(0, (2, x0)), (1, (2, x1))] [] D := fun x0 x1 D hP h => ih hP h
    replace h : (ga_ck (hk D x0 = (61, 0)) (ga_ck (x1 = 0 ∨ 4096 ≤ x1 ∨ D x0 3 = 0 ∨ 4096 ≤ D x0 3 ∨ x1 = D x0 3) (if x1 = D x0 3 then (k345 x1 D) else (ga_bind (h_J4_colorOf x1 D) (fun r9 D9 => if r9 ≠ 1 then (k345 x1 D9) else (ga_bind (h_J4_parentOf x1 D9) (fun r18 D18 => ga_bind (h_J4_leftOf r18 D18) (fun r21 D21 => ga_ck (x1 = 0 ∨ 4096 ≤ x1 ∨ r21 = 0 ∨ 4096 ≤ r21 ∨ x1 = r21) (if x1 ≠ r21 then (ga_bind (h_J4_parentOf x1 D21) (fun r187 D187 => ga_bind (h_J4_leftOf r187 D187) (fun r190 D190 => ga_bind (h_J4_colorOf r190 D190) (fun r195 D195 => if r195 ≠ 0 then (h_J4_fixAfterDeletion_j230 x0 x1 r190 D195 (fun x0 x1 D0 => h_J4_fixAfterDeletion_l0 n x0 x1 D0 k345)) else (ga_bind (h_J4_setColor r190 1 D195) (fun r203 D203 => ga_bind (h_J4_parentOf x1 D203) (fun r207 D207 => ga_bind (h_J4_setColor r207 0 D207) (fun r211 D211 => ga_bind (h_J4_parentOf x1 D211) (fun r216 D216 => ga_bind (h_J4_rotateRight x0 r216 D216) (fun r219 D219 => ga_bind (h_J4_parentOf x1 D219) (fun r223 D223 => ga_bind (h_J4_leftOf r223 D223) (fun r226 D226 => h_J4_fixAfterDeletion_j230 x0 x1 r226 D226 (fun x0 x1 D0 => h_J4_fixAfterDeletion_l0 n x0 x1 D0 k345))))))))))))) else (ga_bind (h_J4_parentOf x1 D21) (fun r28 D28 => ga_bind (h_J4_rightOf r28 D28) (fun r31 D31 => ga_bind (h_J4_colorOf r31 D31) (fun r36 D36 => if r36 ≠ 0 then (h_J4_fixAfterDeletion_j71 x0 x1 r31 D36 (fun x0 x1 D0 => h_J4_fixAfterDeletion_l0 n x0 x1 D0 k345)) else (ga_bind (h_J4_setColor r31 1 D36) (fun r44 D44 => ga_bind (h_J4_parentOf x1 D44) (fun r48 D48 => ga_bind (h_J4_setColor r48 0 D48) (fun r52 D52 => ga_bind (h_J4_parentOf x1 D52) (fun r57 D57 => ga_bind (h_J4_rotateLeft x0 r57 D57) (fun r60 D60 => ga_bind (h_J4_parentOf x1 D60) (fun r64 D64 => ga_bind (h_J4_rightOf r64 D64) (fun r67 D67 => h_J4_fixAfterDeletion_j71 x0 x1 r67 D67 (fun x0 x1 D0 => h_J4_fixAfterDeletion_l0 n x0 x1 D0 k345))))))))))))))))))))) : ga_S) = some (r, D') := h
    refine hw_1 (fun k => x_aload_n dJ4_fixAfterDeletion_0 rfl k) ?_
    refine hw_1 (fun k => x_aload_n dJ4_fixAfterDeletion_1 rfl k) ?_
    replace h := ga_ck_some h; obtain ⟨hc2_0, h⟩ := h
    refine hw_1 (fun k => x_getf (v := D x0 3) dJ4_fixAfterDeletion_2 fl_J4_101 hc2_0 rfl k) ?_
    replace h := ga_ck_some h; obtain ⟨hc5_1, h⟩ := h
    by_cases c5 : x1 = D x0 3
    · rw [if_pos c5] at h
      refine hw_1 (fun k => x_acmp_eq (tgt := 345) dJ4_fixAfterDeletion_5 (by decide) hc5_1 (fun _ => k) (fun z => absurd c5 z)) ?_
      refine hw_locs [1] (ls' := [(1, (2, x1))]) rfl ?_
      exact hk345 _ _ hP h
    · rw [if_neg c5] at h
      refine hw_1 (fun k => x_acmp_eq (tgt := 345) dJ4_fixAfterDeletion_5 (by decide) hc5_1 (fun z => absurd z c5) (fun _ => k)) ?_
      refine hw_1 (fun k => x_aload_n dJ4_fixAfterDeletion_8 rfl k) ?_
      replace h := ga_bind_some h; obtain ⟨r9, D9, g9, h⟩ := h
      have hR9 := (h_J4_colorOf_ok (G := G) hP g9)
      obtain ⟨hP9, hE9, -⟩ := id hR9
      refine hw_call (rest := []) hR9 (fun hc hk9 => x_callS (as := [(2, x1)]) (rest := []) dJ4_fixAfterDeletion_9 hc (lw_S q4300 q4301 q403 q4302) (show _ ∧ _ ∧ _ = some 1 from by decide +kernel) (by decide) (by decide) rfl (Nat.le_of_ble_eq_true rfl) hk9 aw_nox) ?_
      refine hw_1 (fun k => x_iconst dJ4_fixAfterDeletion_12 (by decide) k) ?_
      by_cases c13 : r9 ≠ 1
      · rw [if_pos c13] at h
        refine hw_1 (fun k => x_icmp_ne (tgt := 345) dJ4_fixAfterDeletion_13 (by decide) (fun _ => k) (fun z => absurd c13 z)) ?_
        refine hw_locs [1] (ls' := [(1, (2, x1))]) rfl ?_
        exact hk345 _ _ hP9 h
      · rw [if_neg c13] at h
        refine hw_1 (fun k => x_icmp_ne (tgt := 345) dJ4_fixAfterDeletion_13 (by decide) (fun z => absurd z c13) (fun _ => k)) ?_
        refine hw_1 (fun k => x_aload_n dJ4_fixAfterDeletion_16 rfl k) ?_
        refine hw_1 (fun k => x_aload_n dJ4_fixAfterDeletion_17 rfl k) ?_
        replace h := ga_bind_some h; obtain ⟨r18, D18, g18, h⟩ := h
        have hR18 := (h_J4_parentOf_ok (G := G) hP9 g18)
        obtain ⟨hP18, hE18, -⟩ := id hR18
        refine hw_call (rest := [(2, x1)]) hR18 (fun hc hk9 => x_callS (as := [(2, x1)]) (rest := [(2, x1)]) dJ4_fixAfterDeletion_18 hc (lw_S q4291 q4292 q403 q4293) (show _ ∧ _ ∧ _ = some 1 from by decide +kernel) (by decide) (by decide) rfl (Nat.le_of_ble_eq_true rfl) hk9 aw_nox) ?_
        replace h := ga_bind_some h; obtain ⟨r21, D21, g21, h⟩ := h
        have hR21 := (h_J4_leftOf_ok (G := G) hP18 g21)
        obtain ⟨hP21, hE21, -⟩ := id hR21
        refine hw_call (rest := [(2, x1)]) hR21 (fun hc hk9 => x_callS (as := [(2, r18)]) (rest := [(2, x1)]) dJ4_fixAfterDeletion_21 hc (lw_S q4294 q4295 q403 q4296) (show _ ∧ _ ∧ _ = some 1 from by decide +kernel) (by decide) (by decide) rfl (Nat.le_of_ble_eq_true rfl) hk9 aw_nox) ?_
        replace h := ga_ck_some h; obtain ⟨hc24_0, h⟩ := h
        by_cases c24 : x1 ≠ r21
        · rw [if_pos c24] at h
          refine hw_1 (fun k => x_acmp_ne (tgt := 186) dJ4_fixAfterDeletion_24 (by decide) hc24_0 (fun _ => k) (fun z => absurd c24 z)) ?_
          refine hw_1 (fun k => x_aload_n dJ4_fixAfterDeletion_186 rfl k) ?_
          replace h := ga_bind_some h; obtain ⟨r187, D187, g187, h⟩ := h
          have hR187 := (h_J4_parentOf_ok (G := G) hP21 g187)
          obtain ⟨hP187, hE187, -⟩ := id hR187
          refine hw_call (rest := []) hR187 (fun hc hk9 => x_callS (as := [(2, x1)]) (rest := []) dJ4_fixAfterDeletion_187 hc (lw_S q4291 q4292 q403 q4293) (show _ ∧ _ ∧ _ = some 1 from by decide +kernel) (by decide) (by decide) rfl (Nat.le_of_ble_eq_true rfl) hk9 aw_nox) ?_
          replace h := ga_bind_some h; obtain ⟨r190, D190, g190, h⟩ := h
          have hR190 := (h_J4_leftOf_ok (G := G) hP187 g190)
          obtain ⟨hP190, hE190, -⟩ := id hR190
          refine hw_call (rest := []) hR190 (fun hc hk9 => x_callS (as := [(2, r187)]) (rest := []) dJ4_fixAfterDeletion_190 hc (lw_S q4294 q4295 q403 q4296) (show _ ∧ _ ∧ _ = some 1 from by decide +kernel) (by decide) (by decide) rfl (Nat.le_of_ble_eq_true rfl) hk9 aw_nox) ?_
          refine hw_1 (fun k => x_astore_n (ls' := [(2, (2, r190)), (0, (2, x0)), (1, (2, x1))]) dJ4_fixAfterDeletion_193 (by decide) rfl k) ?_
          refine hw_1 (fun k => x_aload_n dJ4_fixAfterDeletion_194 rfl k) ?_
          replace h := ga_bind_some h; obtain ⟨r195, D195, g195, h⟩ := h
          have hR195 := (h_J4_colorOf_ok (G := G) hP190 g195)
          obtain ⟨hP195, hE195, -⟩ := id hR195
          refine hw_call (rest := []) hR195 (fun hc hk9 => x_callS (as := [(2, r190)]) (rest := []) dJ4_fixAfterDeletion_195 hc (lw_S q4300 q4301 q403 q4302) (show _ ∧ _ ∧ _ = some 1 from by decide +kernel) (by decide) (by decide) rfl (Nat.le_of_ble_eq_true rfl) hk9 aw_nox) ?_
          by_cases c198 : r195 ≠ 0
          · rw [if_pos c198] at h
            refine hw_1 (fun k => x_if_ne (tgt := 230) dJ4_fixAfterDeletion_198 (by decide) (fun _ => k) (fun z => absurd c198 z)) ?_
            refine hw_locs [1, 2, 0] (ls' := [(0, (2, x0)), (1, (2, x1)), (2, (2, r190))]) rfl ?_
            refine h_J4_fixAfterDeletion_j230_ok hq (fun x0 x1 D0 hP h => ?_) hP195 h
            · exact ih _ _ _ hP h
          · rw [if_neg c198] at h
            refine hw_1 (fun k => x_if_ne (tgt := 230) dJ4_fixAfterDeletion_198 (by decide) (fun z => absurd z c198) (fun _ => k)) ?_
            refine hw_1 (fun k => x_aload_n dJ4_fixAfterDeletion_201 rfl k) ?_
            refine hw_1 (fun k => x_iconst dJ4_fixAfterDeletion_202 (by decide) k) ?_
            replace h := ga_bind_some h; obtain ⟨r203, D203, g203, h⟩ := h
            have hR203 := (h_J4_setColor_ok (G := G) hP195 g203)
            obtain ⟨hP203, hE203, -⟩ := id hR203
            refine hw_call (rest := []) hR203 (fun hc hk9 => x_callS (as := [(2, r190), (0, 1)]) (rest := []) dJ4_fixAfterDeletion_203 hc (lw_S q4303 q4304 q403 q4305) (show _ ∧ _ ∧ _ = some 2 from by decide +kernel) (by decide) (by decide) rfl (Nat.le_of_ble_eq_true rfl) hk9 aw_nox) ?_
            refine hw_1 (fun k => x_aload_n dJ4_fixAfterDeletion_206 rfl k) ?_
            replace h := ga_bind_some h; obtain ⟨r207, D207, g207, h⟩ := h
            have hR207 := (h_J4_parentOf_ok (G := G) hP203 g207)
            obtain ⟨hP207, hE207, -⟩ := id hR207
            refine hw_call (rest := []) hR207 (fun hc hk9 => x_callS (as := [(2, x1)]) (rest := []) dJ4_fixAfterDeletion_207 hc (lw_S q4291 q4292 q403 q4293) (show _ ∧ _ ∧ _ = some 1 from by decide +kernel) (by decide) (by decide) rfl (Nat.le_of_ble_eq_true rfl) hk9 aw_nox) ?_
            refine hw_1 (fun k => x_iconst dJ4_fixAfterDeletion_210 (by decide) k) ?_
            replace h := ga_bind_some h; obtain ⟨r211, D211, g211, h⟩ := h
            have hR211 := (h_J4_setColor_ok (G := G) hP207 g211)
            obtain ⟨hP211, hE211, -⟩ := id hR211
            refine hw_call (rest := []) hR211 (fun hc hk9 => x_callS (as := [(2, r207), (0, 0)]) (rest := []) dJ4_fixAfterDeletion_211 hc (lw_S q4303 q4304 q403 q4305) (show _ ∧ _ ∧ _ = some 2 from by decide +kernel) (by decide) (by decide) rfl (Nat.le_of_ble_eq_true rfl) hk9 aw_nox) ?_
            refine hw_1 (fun k => x_aload_n dJ4_fixAfterDeletion_214 rfl k) ?_
            refine hw_1 (fun k => x_aload_n dJ4_fixAfterDeletion_215 rfl k) ?_
            replace h := ga_bind_some h; obtain ⟨r216, D216, g216, h⟩ := h
            have hR216 := (h_J4_parentOf_ok (G := G) hP211 g216)
            obtain ⟨hP216, hE216, -⟩ := id hR216
            refine hw_call (rest := [(2, x0)]) hR216 (fun hc hk9 => x_callS (as := [(2, x1)]) (rest := [(2, x0)]) dJ4_fixAfterDeletion_216 hc (lw_S q4291 q4292 q403 q4293) (show _ ∧ _ ∧ _ = some 1 from by decide +kernel) (by decide) (by decide) rfl (Nat.le_of_ble_eq_true rfl) hk9 aw_nox) ?_
            replace h := ga_bind_some h; obtain ⟨r219, D219, g219, h⟩ := h
            have hR219 := (h_J4_rotateRight_ok (G := G) hP216 g219)
            obtain ⟨hP219, hE219, -⟩ := id hR219
            refine hw_call (rest := []) hR219 (fun hc hk9 => x_callV (as := [(2, r216)]) (rest := []) dJ4_fixAfterDeletion_219 hc (lw_V q4310 q4312 qs40 q403 q4313) (h_kx hE216 (h_kx hE211 (h_kx hE207 (h_kx hE203 (h_kx hE195 (h_kx hE190 (h_kx hE187 (h_kx hE21 (h_kx hE18 (h_kx hE9 hc2_0 (by decide)) (by decide)) (by decide)) (by decide)) (by decide)) (by decide)) (by decide)) (by decide)) (by decide)) (by decide)) rfl rfl (show _ ∧ _ ∧ _ ∧ _ = some 1 from by decide +kernel) (by decide) (by decide) rfl (Nat.le_of_ble_eq_true rfl) hk9 aw_nox) ?_
            refine hw_1 (fun k => x_aload_n dJ4_fixAfterDeletion_222 rfl k) ?_
            replace h := ga_bind_some h; obtain ⟨r223, D223, g223, h⟩ := h
            have hR223 := (h_J4_parentOf_ok (G := G) hP219 g223)
            obtain ⟨hP223, hE223, -⟩ := id hR223
            refine hw_call (rest := []) hR223 (fun hc hk9 => x_callS (as := [(2, x1)]) (rest := []) dJ4_fixAfterDeletion_223 hc (lw_S q4291 q4292 q403 q4293) (show _ ∧ _ ∧ _ = some 1 from by decide +kernel) (by decide) (by decide) rfl (Nat.le_of_ble_eq_true rfl) hk9 aw_nox) ?_
            replace h := ga_bind_some h; obtain ⟨r226, D226, g226, h⟩ := h
            have hR226 := (h_J4_leftOf_ok (G := G) hP223 g226)
            obtain ⟨hP226, hE226, -⟩ := id hR226
            refine hw_call (rest := []) hR226 (fun hc hk9 => x_callS (as := [(2, r223)]) (rest := []) dJ4_fixAfterDeletion_226 hc (lw_S q4294 q4295 q403 q4296) (show _ ∧ _ ∧ _ = some 1 from by decide +kernel) (by decide) (by decide) rfl (Nat.le_of_ble_eq_true rfl) hk9 aw_nox) ?_
            refine hw_1 (fun k => x_astore_n (ls' := [(2, (2, r226)), (0, (2, x0)), (1, (2, x1))]) dJ4_fixAfterDeletion_229 (by decide) rfl k) ?_
            refine hw_locs [1, 2, 0] (ls' := [(0, (2, x0)), (1, (2, x1)), (2, (2, r226))]) rfl ?_
            refine h_J4_fixAfterDeletion_j230_ok hq (fun x0 x1 D0 hP h => ?_) hP226 h
            · exact ih _ _ _ hP h
        · rw [if_neg c24] at h
          refine hw_1 (fun k => x_acmp_ne (tgt := 186) dJ4_fixAfterDeletion_24 (by decide) hc24_0 (fun z => absurd z c24) (fun _ => k)) ?_
          refine hw_1 (fun k => x_aload_n dJ4_fixAfterDeletion_27 rfl k) ?_
          replace h := ga_bind_some h; obtain ⟨r28, D28, g28, h⟩ := h
          have hR28 := (h_J4_parentOf_ok (G := G) hP21 g28)
          obtain ⟨hP28, hE28, -⟩ := id hR28
          refine hw_call (rest := []) hR28 (fun hc hk9 => x_callS (as := [(2, x1)]) (rest := []) dJ4_fixAfterDeletion_28 hc (lw_S q4291 q4292 q403 q4293) (show _ ∧ _ ∧ _ = some 1 from by decide +kernel) (by decide) (by decide) rfl (Nat.le_of_ble_eq_true rfl) hk9 aw_nox) ?_
          replace h := ga_bind_some h; obtain ⟨r31, D31, g31, h⟩ := h
          have hR31 := (h_J4_rightOf_ok (G := G) hP28 g31)
          obtain ⟨hP31, hE31, -⟩ := id hR31
          refine hw_call (rest := []) hR31 (fun hc hk9 => x_callS (as := [(2, r28)]) (rest := []) dJ4_fixAfterDeletion_31 hc (lw_S q4297 q4298 q403 q4299) (show _ ∧ _ ∧ _ = some 1 from by decide +kernel) (by decide) (by decide) rfl (Nat.le_of_ble_eq_true rfl) hk9 aw_nox) ?_
          refine hw_1 (fun k => x_astore_n (ls' := [(2, (2, r31)), (0, (2, x0)), (1, (2, x1))]) dJ4_fixAfterDeletion_34 (by decide) rfl k) ?_
          refine hw_1 (fun k => x_aload_n dJ4_fixAfterDeletion_35 rfl k) ?_
          replace h := ga_bind_some h; obtain ⟨r36, D36, g36, h⟩ := h
          have hR36 := (h_J4_colorOf_ok (G := G) hP31 g36)
          obtain ⟨hP36, hE36, -⟩ := id hR36
          refine hw_call (rest := []) hR36 (fun hc hk9 => x_callS (as := [(2, r31)]) (rest := []) dJ4_fixAfterDeletion_36 hc (lw_S q4300 q4301 q403 q4302) (show _ ∧ _ ∧ _ = some 1 from by decide +kernel) (by decide) (by decide) rfl (Nat.le_of_ble_eq_true rfl) hk9 aw_nox) ?_
          by_cases c39 : r36 ≠ 0
          · rw [if_pos c39] at h
            refine hw_1 (fun k => x_if_ne (tgt := 71) dJ4_fixAfterDeletion_39 (by decide) (fun _ => k) (fun z => absurd c39 z)) ?_
            refine hw_locs [1, 2, 0] (ls' := [(0, (2, x0)), (1, (2, x1)), (2, (2, r31))]) rfl ?_
            refine h_J4_fixAfterDeletion_j71_ok hq (fun x0 x1 D0 hP h => ?_) hP36 h
            · exact ih _ _ _ hP h
          · rw [if_neg c39] at h
            refine hw_1 (fun k => x_if_ne (tgt := 71) dJ4_fixAfterDeletion_39 (by decide) (fun z => absurd z c39) (fun _ => k)) ?_
            refine hw_1 (fun k => x_aload_n dJ4_fixAfterDeletion_42 rfl k) ?_
            refine hw_1 (fun k => x_iconst dJ4_fixAfterDeletion_43 (by decide) k) ?_
            replace h := ga_bind_some h; obtain ⟨r44, D44, g44, h⟩ := h
            have hR44 := (h_J4_setColor_ok (G := G) hP36 g44)
            obtain ⟨hP44, hE44, -⟩ := id hR44
            refine hw_call (rest := []) hR44 (fun hc hk9 => x_callS (as := [(2, r31), (0, 1)]) (rest := []) dJ4_fixAfterDeletion_44 hc (lw_S q4303 q4304 q403 q4305) (show _ ∧ _ ∧ _ = some 2 from by decide +kernel) (by decide) (by decide) rfl (Nat.le_of_ble_eq_true rfl) hk9 aw_nox) ?_
            refine hw_1 (fun k => x_aload_n dJ4_fixAfterDeletion_47 rfl k) ?_
            replace h := ga_bind_some h; obtain ⟨r48, D48, g48, h⟩ := h
            have hR48 := (h_J4_parentOf_ok (G := G) hP44 g48)
            obtain ⟨hP48, hE48, -⟩ := id hR48
            refine hw_call (rest := []) hR48 (fun hc hk9 => x_callS (as := [(2, x1)]) (rest := []) dJ4_fixAfterDeletion_48 hc (lw_S q4291 q4292 q403 q4293) (show _ ∧ _ ∧ _ = some 1 from by decide +kernel) (by decide) (by decide) rfl (Nat.le_of_ble_eq_true rfl) hk9 aw_nox) ?_
            refine hw_1 (fun k => x_iconst dJ4_fixAfterDeletion_51 (by decide) k) ?_
            replace h := ga_bind_some h; obtain ⟨r52, D52, g52, h⟩ := h
            have hR52 := (h_J4_setColor_ok (G := G) hP48 g52)
            obtain ⟨hP52, hE52, -⟩ := id hR52
            refine hw_call (rest := []) hR52 (fun hc hk9 => x_callS (as := [(2, r48), (0, 0)]) (rest := []) dJ4_fixAfterDeletion_52 hc (lw_S q4303 q4304 q403 q4305) (show _ ∧ _ ∧ _ = some 2 from by decide +kernel) (by decide) (by decide) rfl (Nat.le_of_ble_eq_true rfl) hk9 aw_nox) ?_
            refine hw_1 (fun k => x_aload_n dJ4_fixAfterDeletion_55 rfl k) ?_
            refine hw_1 (fun k => x_aload_n dJ4_fixAfterDeletion_56 rfl k) ?_
            replace h := ga_bind_some h; obtain ⟨r57, D57, g57, h⟩ := h
            have hR57 := (h_J4_parentOf_ok (G := G) hP52 g57)
            obtain ⟨hP57, hE57, -⟩ := id hR57
            refine hw_call (rest := [(2, x0)]) hR57 (fun hc hk9 => x_callS (as := [(2, x1)]) (rest := [(2, x0)]) dJ4_fixAfterDeletion_57 hc (lw_S q4291 q4292 q403 q4293) (show _ ∧ _ ∧ _ = some 1 from by decide +kernel) (by decide) (by decide) rfl (Nat.le_of_ble_eq_true rfl) hk9 aw_nox) ?_
            replace h := ga_bind_some h; obtain ⟨r60, D60, g60, h⟩ := h
            have hR60 := (h_J4_rotateLeft_ok (G := G) hP57 g60)
            obtain ⟨hP60, hE60, -⟩ := id hR60
            refine hw_call (rest := []) hR60 (fun hc hk9 => x_callV (as := [(2, r57)]) (rest := []) dJ4_fixAfterDeletion_60 hc (lw_V q4306 q4308 qs39 q403 q4309) (h_kx hE57 (h_kx hE52 (h_kx hE48 (h_kx hE44 (h_kx hE36 (h_kx hE31 (h_kx hE28 (h_kx hE21 (h_kx hE18 (h_kx hE9 hc2_0 (by decide)) (by decide)) (by decide)) (by decide)) (by decide)) (by decide)) (by decide)) (by decide)) (by decide)) (by decide)) rfl rfl (show _ ∧ _ ∧ _ ∧ _ = some 1 from by decide +kernel) (by decide) (by decide) rfl (Nat.le_of_ble_eq_true rfl) hk9 aw_nox) ?_
            refine hw_1 (fun k => x_aload_n dJ4_fixAfterDeletion_63 rfl k) ?_
            replace h := ga_bind_some h; obtain ⟨r64, D64, g64, h⟩ := h
            have hR64 := (h_J4_parentOf_ok (G := G) hP60 g64)
            obtain ⟨hP64, hE64, -⟩ := id hR64
            refine hw_call (rest := []) hR64 (fun hc hk9 => x_callS (as := [(2, x1)]) (rest := []) dJ4_fixAfterDeletion_64 hc (lw_S q4291 q4292 q403 q4293) (show _ ∧ _ ∧ _ = some 1 from by decide +kernel) (by decide) (by decide) rfl (Nat.le_of_ble_eq_true rfl) hk9 aw_nox) ?_
            replace h := ga_bind_some h; obtain ⟨r67, D67, g67, h⟩ := h
            have hR67 := (h_J4_rightOf_ok (G := G) hP64 g67)
            obtain ⟨hP67, hE67, -⟩ := id hR67
            refine hw_call (rest := []) hR67 (fun hc hk9 => x_callS (as := [(2, r64)]) (rest := []) dJ4_fixAfterDeletion_67 hc (lw_S q4297 q4298 q403 q4299) (show _ ∧ _ ∧ _ = some 1 from by decide +kernel) (by decide) (by decide) rfl (Nat.le_of_ble_eq_true rfl) hk9 aw_nox) ?_
            refine hw_1 (fun k => x_astore_n (ls' := [(2, (2, r67)), (0, (2, x0)), (1, (2, x1))]) dJ4_fixAfterDeletion_70 (by decide) rfl k) ?_
            refine hw_locs [1, 2, 0] (ls' := [(0, (2, x0)), (1, (2, x1)), (2, (2, r67))]) rfl ?_
            refine h_J4_fixAfterDeletion_j71_ok hq (fun x0 x1 D0 hP h => ?_) hP67 h
            · exact ih _ _ _ hP h
theorem h_J4_fixAfterDeletion_ok {G : aw_G} {D D' : ga_D} {r : Int} {x0 x1 : Int} (hP : h_P D) (h : h_J4_fixAfterDeletion x0 x1 D = some (r, D')) : aw_HR yJ4_fixAfterDeletion cJ4_fixAfterDeletion 3 none 1 G [(2, x0), (2, x1)] D none D' := by
  unfold h_J4_fixAfterDeletion at h
  refine hw_body (own := "java/util/TreeMap") (ini := false) (ls := [(0, (2, x0)), (1, (2, x1))]) rfl rfl (fun h => by cases h) (Nat.le_of_ble_eq_true rfl) rfl fun Q hq => ?_
  refine hw_1 (fun k => x_aload_n dJ4_fixAfterDeletion_0 rfl k) ?_
  refine hw_1 (fun k => x_aload_n dJ4_fixAfterDeletion_1 rfl k) ?_
  replace h := ga_ck_some h; obtain ⟨hc2_0, h⟩ := h
  refine hw_1 (fun k => x_getf (v := D x0 3) dJ4_fixAfterDeletion_2 fl_J4_101 hc2_0 rfl k) ?_
  replace h := ga_ck_some h; obtain ⟨hc5_1, h⟩ := h
  by_cases c5 : x1 = D x0 3
  · rw [if_pos c5] at h
    refine hw_1 (fun k => x_acmp_eq (tgt := 345) dJ4_fixAfterDeletion_5 (by decide) hc5_1 (fun _ => k) (fun z => absurd c5 z)) ?_
    refine hw_locs [1] (ls' := [(1, (2, x1))]) rfl ?_
    refine h_J4_fixAfterDeletion_j345_ok hq hP h
  · rw [if_neg c5] at h
    refine hw_1 (fun k => x_acmp_eq (tgt := 345) dJ4_fixAfterDeletion_5 (by decide) hc5_1 (fun z => absurd z c5) (fun _ => k)) ?_
    refine hw_1 (fun k => x_aload_n dJ4_fixAfterDeletion_8 rfl k) ?_
    replace h := ga_bind_some h; obtain ⟨r9, D9, g9, h⟩ := h
    have hR9 := (h_J4_colorOf_ok (G := G) hP g9)
    obtain ⟨hP9, hE9, -⟩ := id hR9
    refine hw_call (rest := []) hR9 (fun hc hk9 => x_callS (as := [(2, x1)]) (rest := []) dJ4_fixAfterDeletion_9 hc (lw_S q4300 q4301 q403 q4302) (show _ ∧ _ ∧ _ = some 1 from by decide +kernel) (by decide) (by decide) rfl (Nat.le_of_ble_eq_true rfl) hk9 aw_nox) ?_
    refine hw_1 (fun k => x_iconst dJ4_fixAfterDeletion_12 (by decide) k) ?_
    by_cases c13 : r9 ≠ 1
    · rw [if_pos c13] at h
      refine hw_1 (fun k => x_icmp_ne (tgt := 345) dJ4_fixAfterDeletion_13 (by decide) (fun _ => k) (fun z => absurd c13 z)) ?_
      refine hw_locs [1] (ls' := [(1, (2, x1))]) rfl ?_
      refine h_J4_fixAfterDeletion_j345_ok hq hP9 h
    · rw [if_neg c13] at h
      refine hw_1 (fun k => x_icmp_ne (tgt := 345) dJ4_fixAfterDeletion_13 (by decide) (fun z => absurd z c13) (fun _ => k)) ?_
      refine hw_1 (fun k => x_aload_n dJ4_fixAfterDeletion_16 rfl k) ?_
      refine hw_1 (fun k => x_aload_n dJ4_fixAfterDeletion_17 rfl k) ?_
      replace h := ga_bind_some h; obtain ⟨r18, D18, g18, h⟩ := h
      have hR18 := (h_J4_parentOf_ok (G := G) hP9 g18)
      obtain ⟨hP18, hE18, -⟩ := id hR18
      refine hw_call (rest := [(2, x1)]) hR18 (fun hc hk9 => x_callS (as := [(2, x1)]) (rest := [(2, x1)]) dJ4_fixAfterDeletion_18 hc (lw_S q4291 q4292 q403 q4293) (show _ ∧ _ ∧ _ = some 1 from by decide +kernel) (by decide) (by decide) rfl (Nat.le_of_ble_eq_true rfl) hk9 aw_nox) ?_
      replace h := ga_bind_some h; obtain ⟨r21, D21, g21, h⟩ := h
      have hR21 := (h_J4_leftOf_ok (G := G) hP18 g21)
      obtain ⟨hP21, hE21, -⟩ := id hR21
      refine hw_call (rest := [(2, x1)]) hR21 (fun hc hk9 => x_callS (as := [(2, r18)]) (rest := [(2, x1)]) dJ4_fixAfterDeletion_21 hc (lw_S q4294 q4295 q403 q4296) (show _ ∧ _ ∧ _ = some 1 from by decide +kernel) (by decide) (by decide) rfl (Nat.le_of_ble_eq_true rfl) hk9 aw_nox) ?_
      replace h := ga_ck_some h; obtain ⟨hc24_0, h⟩ := h
      by_cases c24 : x1 ≠ r21
      · rw [if_pos c24] at h
        refine hw_1 (fun k => x_acmp_ne (tgt := 186) dJ4_fixAfterDeletion_24 (by decide) hc24_0 (fun _ => k) (fun z => absurd c24 z)) ?_
        refine hw_1 (fun k => x_aload_n dJ4_fixAfterDeletion_186 rfl k) ?_
        replace h := ga_bind_some h; obtain ⟨r187, D187, g187, h⟩ := h
        have hR187 := (h_J4_parentOf_ok (G := G) hP21 g187)
        obtain ⟨hP187, hE187, -⟩ := id hR187
        refine hw_call (rest := []) hR187 (fun hc hk9 => x_callS (as := [(2, x1)]) (rest := []) dJ4_fixAfterDeletion_187 hc (lw_S q4291 q4292 q403 q4293) (show _ ∧ _ ∧ _ = some 1 from by decide +kernel) (by decide) (by decide) rfl (Nat.le_of_ble_eq_true rfl) hk9 aw_nox) ?_
        replace h := ga_bind_some h; obtain ⟨r190, D190, g190, h⟩ := h
        have hR190 := (h_J4_leftOf_ok (G := G) hP187 g190)
        obtain ⟨hP190, hE190, -⟩ := id hR190
        refine hw_call (rest := []) hR190 (fun hc hk9 => x_callS (as := [(2, r187)]) (rest := []) dJ4_fixAfterDeletion_190 hc (lw_S q4294 q4295 q403 q4296) (show _ ∧ _ ∧ _ = some 1 from by decide +kernel) (by decide) (by decide) rfl (Nat.le_of_ble_eq_true rfl) hk9 aw_nox) ?_
        refine hw_1 (fun k => x_astore_n (ls' := [(2, (2, r190)), (0, (2, x0)), (1, (2, x1))]) dJ4_fixAfterDeletion_193 (by decide) rfl k) ?_
        refine hw_1 (fun k => x_aload_n dJ4_fixAfterDeletion_194 rfl k) ?_
        replace h := ga_bind_some h; obtain ⟨r195, D195, g195, h⟩ := h
        have hR195 := (h_J4_colorOf_ok (G := G) hP190 g195)
        obtain ⟨hP195, hE195, -⟩ := id hR195
        refine hw_call (rest := []) hR195 (fun hc hk9 => x_callS (as := [(2, r190)]) (rest := []) dJ4_fixAfterDeletion_195 hc (lw_S q4300 q4301 q403 q4302) (show _ ∧ _ ∧ _ = some 1 from by decide +kernel) (by decide) (by decide) rfl (Nat.le_of_ble_eq_true rfl) hk9 aw_nox) ?_
        by_cases c198 : r195 ≠ 0
        · rw [if_pos c198] at h
          refine hw_1 (fun k => x_if_ne (tgt := 230) dJ4_fixAfterDeletion_198 (by decide) (fun _ => k) (fun z => absurd c198 z)) ?_
          refine hw_locs [1, 2, 0] (ls' := [(0, (2, x0)), (1, (2, x1)), (2, (2, r190))]) rfl ?_
          refine h_J4_fixAfterDeletion_j230_ok hq (fun x0 x1 D0 hP h => ?_) hP195 h
          · refine h_J4_fixAfterDeletion_l0_ok hq (fun x1 D345 hP h => ?_) hP h
            · refine h_J4_fixAfterDeletion_j345_ok hq hP h
        · rw [if_neg c198] at h
          refine hw_1 (fun k => x_if_ne (tgt := 230) dJ4_fixAfterDeletion_198 (by decide) (fun z => absurd z c198) (fun _ => k)) ?_
          refine hw_1 (fun k => x_aload_n dJ4_fixAfterDeletion_201 rfl k) ?_
          refine hw_1 (fun k => x_iconst dJ4_fixAfterDeletion_202 (by decide) k) ?_
          replace h := ga_bind_some h; obtain ⟨r203, D203, g203, h⟩ := h
          have hR203 := (h_J4_setColor_ok (G := G) hP195 g203)
          obtain ⟨hP203, hE203, -⟩ := id hR203
          refine hw_call (rest := []) hR203 (fun hc hk9 => x_callS (as := [(2, r190), (0, 1)]) (rest := []) dJ4_fixAfterDeletion_203 hc (lw_S q4303 q4304 q403 q4305) (show _ ∧ _ ∧ _ = some 2 from by decide +kernel) (by decide) (by decide) rfl (Nat.le_of_ble_eq_true rfl) hk9 aw_nox) ?_
          refine hw_1 (fun k => x_aload_n dJ4_fixAfterDeletion_206 rfl k) ?_
          replace h := ga_bind_some h; obtain ⟨r207, D207, g207, h⟩ := h
          have hR207 := (h_J4_parentOf_ok (G := G) hP203 g207)
          obtain ⟨hP207, hE207, -⟩ := id hR207
          refine hw_call (rest := []) hR207 (fun hc hk9 => x_callS (as := [(2, x1)]) (rest := []) dJ4_fixAfterDeletion_207 hc (lw_S q4291 q4292 q403 q4293) (show _ ∧ _ ∧ _ = some 1 from by decide +kernel) (by decide) (by decide) rfl (Nat.le_of_ble_eq_true rfl) hk9 aw_nox) ?_
          refine hw_1 (fun k => x_iconst dJ4_fixAfterDeletion_210 (by decide) k) ?_
          replace h := ga_bind_some h; obtain ⟨r211, D211, g211, h⟩ := h
          have hR211 := (h_J4_setColor_ok (G := G) hP207 g211)
          obtain ⟨hP211, hE211, -⟩ := id hR211
          refine hw_call (rest := []) hR211 (fun hc hk9 => x_callS (as := [(2, r207), (0, 0)]) (rest := []) dJ4_fixAfterDeletion_211 hc (lw_S q4303 q4304 q403 q4305) (show _ ∧ _ ∧ _ = some 2 from by decide +kernel) (by decide) (by decide) rfl (Nat.le_of_ble_eq_true rfl) hk9 aw_nox) ?_
          refine hw_1 (fun k => x_aload_n dJ4_fixAfterDeletion_214 rfl k) ?_
          refine hw_1 (fun k => x_aload_n dJ4_fixAfterDeletion_215 rfl k) ?_
          replace h := ga_bind_some h; obtain ⟨r216, D216, g216, h⟩ := h
          have hR216 := (h_J4_parentOf_ok (G := G) hP211 g216)
          obtain ⟨hP216, hE216, -⟩ := id hR216
          refine hw_call (rest := [(2, x0)]) hR216 (fun hc hk9 => x_callS (as := [(2, x1)]) (rest := [(2, x0)]) dJ4_fixAfterDeletion_216 hc (lw_S q4291 q4292 q403 q4293) (show _ ∧ _ ∧ _ = some 1 from by decide +kernel) (by decide) (by decide) rfl (Nat.le_of_ble_eq_true rfl) hk9 aw_nox) ?_
          replace h := ga_bind_some h; obtain ⟨r219, D219, g219, h⟩ := h
          have hR219 := (h_J4_rotateRight_ok (G := G) hP216 g219)
          obtain ⟨hP219, hE219, -⟩ := id hR219
          refine hw_call (rest := []) hR219 (fun hc hk9 => x_callV (as := [(2, r216)]) (rest := []) dJ4_fixAfterDeletion_219 hc (lw_V q4310 q4312 qs40 q403 q4313) (h_kx hE216 (h_kx hE211 (h_kx hE207 (h_kx hE203 (h_kx hE195 (h_kx hE190 (h_kx hE187 (h_kx hE21 (h_kx hE18 (h_kx hE9 hc2_0 (by decide)) (by decide)) (by decide)) (by decide)) (by decide)) (by decide)) (by decide)) (by decide)) (by decide)) (by decide)) rfl rfl (show _ ∧ _ ∧ _ ∧ _ = some 1 from by decide +kernel) (by decide) (by decide) rfl (Nat.le_of_ble_eq_true rfl) hk9 aw_nox) ?_
          refine hw_1 (fun k => x_aload_n dJ4_fixAfterDeletion_222 rfl k) ?_
          replace h := ga_bind_some h; obtain ⟨r223, D223, g223, h⟩ := h
          have hR223 := (h_J4_parentOf_ok (G := G) hP219 g223)
          obtain ⟨hP223, hE223, -⟩ := id hR223
          refine hw_call (rest := []) hR223 (fun hc hk9 => x_callS (as := [(2, x1)]) (rest := []) dJ4_fixAfterDeletion_223 hc (lw_S q4291 q4292 q403 q4293) (show _ ∧ _ ∧ _ = some 1 from by decide +kernel) (by decide) (by decide) rfl (Nat.le_of_ble_eq_true rfl) hk9 aw_nox) ?_
          replace h := ga_bind_some h; obtain ⟨r226, D226, g226, h⟩ := h
          have hR226 := (h_J4_leftOf_ok (G := G) hP223 g226)
          obtain ⟨hP226, hE226, -⟩ := id hR226
          refine hw_call (rest := []) hR226 (fun hc hk9 => x_callS (as := [(2, r223)]) (rest := []) dJ4_fixAfterDeletion_226 hc (lw_S q4294 q4295 q403 q4296) (show _ ∧ _ ∧ _ = some 1 from by decide +kernel) (by decide) (by decide) rfl (Nat.le_of_ble_eq_true rfl) hk9 aw_nox) ?_
          refine hw_1 (fun k => x_astore_n (ls' := [(2, (2, r226)), (0, (2, x0)), (1, (2, x1))]) dJ4_fixAfterDeletion_229 (by decide) rfl k) ?_
          refine hw_locs [1, 2, 0] (ls' := [(0, (2, x0)), (1, (2, x1)), (2, (2, r226))]) rfl ?_
          refine h_J4_fixAfterDeletion_j230_ok hq (fun x0 x1 D0 hP h => ?_) hP226 h
          · refine h_J4_fixAfterDeletion_l0_ok hq (fun x1 D345 hP h => ?_) hP h
            · refine h_J4_fixAfterDeletion_j345_ok hq hP h
      · rw [if_neg c24] at h
        refine hw_1 (fun k => x_acmp_ne (tgt := 186) dJ4_fixAfterDeletion_24 (by decide) hc24_0 (fun z => absurd z c24) (fun _ => k)) ?_
        refine hw_1 (fun k => x_aload_n dJ4_fixAfterDeletion_27 rfl k) ?_
        replace h := ga_bind_some h; obtain ⟨r28, D28, g28, h⟩ := h
        have hR28 := (h_J4_parentOf_ok (G := G) hP21 g28)
        obtain ⟨hP28, hE28, -⟩ := id hR28
        refine hw_call (rest := []) hR28 (fun hc hk9 => x_callS (as := [(2, x1)]) (rest := []) dJ4_fixAfterDeletion_28 hc (lw_S q4291 q4292 q403 q4293) (show _ ∧ _ ∧ _ = some 1 from by decide +kernel) (by decide) (by decide) rfl (Nat.le_of_ble_eq_true rfl) hk9 aw_nox) ?_
        replace h := ga_bind_some h; obtain ⟨r31, D31, g31, h⟩ := h
        have hR31 := (h_J4_rightOf_ok (G := G) hP28 g31)
        obtain ⟨hP31, hE31, -⟩ := id hR31
        refine hw_call (rest := []) hR31 (fun hc hk9 => x_callS (as := [(2, r28)]) (rest := []) dJ4_fixAfterDeletion_31 hc (lw_S q4297 q4298 q403 q4299) (show _ ∧ _ ∧ _ = some 1 from by decide +kernel) (by decide) (by decide) rfl (Nat.le_of_ble_eq_true rfl) hk9 aw_nox) ?_
        refine hw_1 (fun k => x_astore_n (ls' := [(2, (2, r31)), (0, (2, x0)), (1, (2, x1))]) dJ4_fixAfterDeletion_34 (by decide) rfl k) ?_
        refine hw_1 (fun k => x_aload_n dJ4_fixAfterDeletion_35 rfl k) ?_
        replace h := ga_bind_some h; obtain ⟨r36, D36, g36, h⟩ := h
        have hR36 := (h_J4_colorOf_ok (G := G) hP31 g36)
        obtain ⟨hP36, hE36, -⟩ := id hR36
        refine hw_call (rest := []) hR36 (fun hc hk9 => x_callS (as := [(2, r31)]) (rest := []) dJ4_fixAfterDeletion_36 hc (lw_S q4300 q4301 q403 q4302) (show _ ∧ _ ∧ _ = some 1 from by decide +kernel) (by decide) (by decide) rfl (Nat.le_of_ble_eq_true rfl) hk9 aw_nox) ?_
        by_cases c39 : r36 ≠ 0
        · rw [if_pos c39] at h
          refine hw_1 (fun k => x_if_ne (tgt := 71) dJ4_fixAfterDeletion_39 (by decide) (fun _ => k) (fun z => absurd c39 z)) ?_
          refine hw_locs [1, 2, 0] (ls' := [(0, (2, x0)), (1, (2, x1)), (2, (2, r31))]) rfl ?_
          refine h_J4_fixAfterDeletion_j71_ok hq (fun x0 x1 D0 hP h => ?_) hP36 h
          · refine h_J4_fixAfterDeletion_l0_ok hq (fun x1 D345 hP h => ?_) hP h
            · refine h_J4_fixAfterDeletion_j345_ok hq hP h
        · rw [if_neg c39] at h
          refine hw_1 (fun k => x_if_ne (tgt := 71) dJ4_fixAfterDeletion_39 (by decide) (fun z => absurd z c39) (fun _ => k)) ?_
          refine hw_1 (fun k => x_aload_n dJ4_fixAfterDeletion_42 rfl k) ?_
          refine hw_1 (fun k => x_iconst dJ4_fixAfterDeletion_43 (by decide) k) ?_
          replace h := ga_bind_some h; obtain ⟨r44, D44, g44, h⟩ := h
          have hR44 := (h_J4_setColor_ok (G := G) hP36 g44)
          obtain ⟨hP44, hE44, -⟩ := id hR44
          refine hw_call (rest := []) hR44 (fun hc hk9 => x_callS (as := [(2, r31), (0, 1)]) (rest := []) dJ4_fixAfterDeletion_44 hc (lw_S q4303 q4304 q403 q4305) (show _ ∧ _ ∧ _ = some 2 from by decide +kernel) (by decide) (by decide) rfl (Nat.le_of_ble_eq_true rfl) hk9 aw_nox) ?_
          refine hw_1 (fun k => x_aload_n dJ4_fixAfterDeletion_47 rfl k) ?_
          replace h := ga_bind_some h; obtain ⟨r48, D48, g48, h⟩ := h
          have hR48 := (h_J4_parentOf_ok (G := G) hP44 g48)
          obtain ⟨hP48, hE48, -⟩ := id hR48
          refine hw_call (rest := []) hR48 (fun hc hk9 => x_callS (as := [(2, x1)]) (rest := []) dJ4_fixAfterDeletion_48 hc (lw_S q4291 q4292 q403 q4293) (show _ ∧ _ ∧ _ = some 1 from by decide +kernel) (by decide) (by decide) rfl (Nat.le_of_ble_eq_true rfl) hk9 aw_nox) ?_
          refine hw_1 (fun k => x_iconst dJ4_fixAfterDeletion_51 (by decide) k) ?_
          replace h := ga_bind_some h; obtain ⟨r52, D52, g52, h⟩ := h
          have hR52 := (h_J4_setColor_ok (G := G) hP48 g52)
          obtain ⟨hP52, hE52, -⟩ := id hR52
          refine hw_call (rest := []) hR52 (fun hc hk9 => x_callS (as := [(2, r48), (0, 0)]) (rest := []) dJ4_fixAfterDeletion_52 hc (lw_S q4303 q4304 q403 q4305) (show _ ∧ _ ∧ _ = some 2 from by decide +kernel) (by decide) (by decide) rfl (Nat.le_of_ble_eq_true rfl) hk9 aw_nox) ?_
          refine hw_1 (fun k => x_aload_n dJ4_fixAfterDeletion_55 rfl k) ?_
          refine hw_1 (fun k => x_aload_n dJ4_fixAfterDeletion_56 rfl k) ?_
          replace h := ga_bind_some h; obtain ⟨r57, D57, g57, h⟩ := h
          have hR57 := (h_J4_parentOf_ok (G := G) hP52 g57)
          obtain ⟨hP57, hE57, -⟩ := id hR57
          refine hw_call (rest := [(2, x0)]) hR57 (fun hc hk9 => x_callS (as := [(2, x1)]) (rest := [(2, x0)]) dJ4_fixAfterDeletion_57 hc (lw_S q4291 q4292 q403 q4293) (show _ ∧ _ ∧ _ = some 1 from by decide +kernel) (by decide) (by decide) rfl (Nat.le_of_ble_eq_true rfl) hk9 aw_nox) ?_
          replace h := ga_bind_some h; obtain ⟨r60, D60, g60, h⟩ := h
          have hR60 := (h_J4_rotateLeft_ok (G := G) hP57 g60)
          obtain ⟨hP60, hE60, -⟩ := id hR60
          refine hw_call (rest := []) hR60 (fun hc hk9 => x_callV (as := [(2, r57)]) (rest := []) dJ4_fixAfterDeletion_60 hc (lw_V q4306 q4308 qs39 q403 q4309) (h_kx hE57 (h_kx hE52 (h_kx hE48 (h_kx hE44 (h_kx hE36 (h_kx hE31 (h_kx hE28 (h_kx hE21 (h_kx hE18 (h_kx hE9 hc2_0 (by decide)) (by decide)) (by decide)) (by decide)) (by decide)) (by decide)) (by decide)) (by decide)) (by decide)) (by decide)) rfl rfl (show _ ∧ _ ∧ _ ∧ _ = some 1 from by decide +kernel) (by decide) (by decide) rfl (Nat.le_of_ble_eq_true rfl) hk9 aw_nox) ?_
          refine hw_1 (fun k => x_aload_n dJ4_fixAfterDeletion_63 rfl k) ?_
          replace h := ga_bind_some h; obtain ⟨r64, D64, g64, h⟩ := h
          have hR64 := (h_J4_parentOf_ok (G := G) hP60 g64)
          obtain ⟨hP64, hE64, -⟩ := id hR64
          refine hw_call (rest := []) hR64 (fun hc hk9 => x_callS (as := [(2, x1)]) (rest := []) dJ4_fixAfterDeletion_64 hc (lw_S q4291 q4292 q403 q4293) (show _ ∧ _ ∧ _ = some 1 from by decide +kernel) (by decide) (by decide) rfl (Nat.le_of_ble_eq_true rfl) hk9 aw_nox) ?_
          replace h := ga_bind_some h; obtain ⟨r67, D67, g67, h⟩ := h
          have hR67 := (h_J4_rightOf_ok (G := G) hP64 g67)
          obtain ⟨hP67, hE67, -⟩ := id hR67
          refine hw_call (rest := []) hR67 (fun hc hk9 => x_callS (as := [(2, r64)]) (rest := []) dJ4_fixAfterDeletion_67 hc (lw_S q4297 q4298 q403 q4299) (show _ ∧ _ ∧ _ = some 1 from by decide +kernel) (by decide) (by decide) rfl (Nat.le_of_ble_eq_true rfl) hk9 aw_nox) ?_
          refine hw_1 (fun k => x_astore_n (ls' := [(2, (2, r67)), (0, (2, x0)), (1, (2, x1))]) dJ4_fixAfterDeletion_70 (by decide) rfl k) ?_
          refine hw_locs [1, 2, 0] (ls' := [(0, (2, x0)), (1, (2, x1)), (2, (2, r67))]) rfl ?_
          refine h_J4_fixAfterDeletion_j71_ok hq (fun x0 x1 D0 hP h => ?_) hP67 h
          · refine h_J4_fixAfterDeletion_l0_ok hq (fun x1 D345 hP h => ?_) hP h
            · refine h_J4_fixAfterDeletion_j345_ok hq hP h
theorem h_J4_deleteEntry_j192_ok {G : aw_G} {M0 : aw_M} {D' : ga_D} {Q : Option aw_V → aw_M → Prop} {r : Int} (hq : Q none (hM D')) {x1 : Int} {D : ga_D} (hP : h_P D) (h : h_J4_deleteEntry_j192 x1 D = some (r, D')) : aw_HW G "java/util/TreeMap" cJ4_deleteEntry none 3 2 false M0 Q aw_no D' (hn D') (hsl D') 192 [(1, (2, x1))] [] D := by
  unfold h_J4_deleteEntry_j192 at h
  refine hw_1 (fun k => x_aload_n dJ4_deleteEntry_192 rfl k) ?_
  replace h := ga_ck_some h; obtain ⟨hc193_0, h⟩ := h
  refine hw_1 (fun k => x_getf (v := D x1 4) dJ4_deleteEntry_193 fl_J4_124 hc193_0 rfl k) ?_
  by_cases c196 : D x1 4 = 0
  · rw [if_pos c196] at h
    refine hw_1 (fun k => x_ifnull (tgt := 245) dJ4_deleteEntry_196 (by decide) (fun _ => k) (fun z => absurd c196 z)) ?_
    obtain ⟨rfl, rfl⟩ := ga_end h
    exact hw_ret hP (x_vret dJ4_deleteEntry_245 rfl hq)
  · rw [if_neg c196] at h
    refine hw_1 (fun k => x_ifnull (tgt := 245) dJ4_deleteEntry_196 (by decide) (fun z => absurd z c196) (fun _ => k)) ?_
    refine hw_1 (fun k => x_aload_n dJ4_deleteEntry_199 rfl k) ?_
    refine hw_1 (fun k => x_aload_n dJ4_deleteEntry_200 rfl k) ?_
    refine hw_1 (fun k => x_getf (v := D x1 4) dJ4_deleteEntry_201 fl_J4_124 hc193_0 rfl k) ?_
    replace h := ga_ck_some h; obtain ⟨hc204_0, h⟩ := h
    refine hw_1 (fun k => x_getf (v := D (D x1 4) 2) dJ4_deleteEntry_204 fl_J4_111 hc204_0 rfl k) ?_
    replace h := ga_ck_some h; obtain ⟨hc207_1, h⟩ := h
    by_cases c207 : x1 ≠ D (D x1 4) 2
    · rw [if_pos c207] at h
      refine hw_1 (fun k => x_acmp_ne (tgt := 221) dJ4_deleteEntry_207 (by decide) hc207_1 (fun _ => k) (fun z => absurd c207 z)) ?_
      refine hw_1 (fun k => x_aload_n dJ4_deleteEntry_221 rfl k) ?_
      refine hw_1 (fun k => x_aload_n dJ4_deleteEntry_222 rfl k) ?_
      refine hw_1 (fun k => x_getf (v := D x1 4) dJ4_deleteEntry_223 fl_J4_124 hc193_0 rfl k) ?_
      refine hw_1 (fun k => x_getf (v := D (D x1 4) 3) dJ4_deleteEntry_226 fl_J4_114 hc204_0 rfl k) ?_
      replace h := ga_ck_some h; obtain ⟨hc229_0, h⟩ := h
      by_cases c229 : x1 ≠ D (D x1 4) 3
      · rw [if_pos c229] at h
        refine hw_1 (fun k => x_acmp_ne (tgt := 240) dJ4_deleteEntry_229 (by decide) hc229_0 (fun _ => k) (fun z => absurd c229 z)) ?_
        refine hw_1 (fun k => x_aload_n dJ4_deleteEntry_240 rfl k) ?_
        refine hw_1 (fun k => x_null dJ4_deleteEntry_241 k) ?_
        replace h := ga_let_some h; obtain ⟨D242, eD242, h⟩ := h
        refine hw_set eD242 (Int.le_trans (by decide) (hkge_76 hc193_0)) (by decide) (fun k => x_putf dJ4_deleteEntry_242 fl_J4_124 rfl hc193_0 (hkge_76 hc193_0) trivial k) ?_
        have hP242 : h_P D242 := hP.set eD242 (hkge_76 hc193_0) (by decide) (hPn hc193_0 rfl)
        have hE242 : h_E D D242 := h_E_set eD242 (by decide)
        obtain ⟨rfl, rfl⟩ := ga_end h
        exact hw_ret hP242 (x_vret dJ4_deleteEntry_245 rfl hq)
      · rw [if_neg c229] at h
        refine hw_1 (fun k => x_acmp_ne (tgt := 240) dJ4_deleteEntry_229 (by decide) hc229_0 (fun z => absurd z c229) (fun _ => k)) ?_
        refine hw_1 (fun k => x_aload_n dJ4_deleteEntry_232 rfl k) ?_
        refine hw_1 (fun k => x_getf (v := D x1 4) dJ4_deleteEntry_233 fl_J4_124 hc193_0 rfl k) ?_
        refine hw_1 (fun k => x_null dJ4_deleteEntry_236 k) ?_
        replace h := ga_let_some h; obtain ⟨D237, eD237, h⟩ := h
        refine hw_set eD237 (Int.le_trans (by decide) (hkge_76 hc204_0)) (by decide) (fun k => x_putf dJ4_deleteEntry_237 fl_J4_114 rfl hc204_0 (hkge_76 hc204_0) trivial k) ?_
        have hP237 : h_P D237 := hP.set eD237 (hkge_76 hc204_0) (by decide) (hPn hc204_0 rfl)
        have hE237 : h_E D D237 := h_E_set eD237 (by decide)
        refine hw_1 (fun k => x_aload_n dJ4_deleteEntry_240 rfl k) ?_
        refine hw_1 (fun k => x_null dJ4_deleteEntry_241 k) ?_
        replace h := ga_let_some h; obtain ⟨D242, eD242, h⟩ := h
        refine hw_set eD242 (Int.le_trans (by decide) (hkge_76 (h_kx hE237 hc193_0 (by decide)))) (by decide) (fun k => x_putf dJ4_deleteEntry_242 fl_J4_124 rfl (h_kx hE237 hc193_0 (by decide)) (hkge_76 (h_kx hE237 hc193_0 (by decide))) trivial k) ?_
        have hP242 : h_P D242 := hP237.set eD242 (hkge_76 (h_kx hE237 hc193_0 (by decide))) (by decide) (hPn (h_kx hE237 hc193_0 (by decide)) rfl)
        have hE242 : h_E D237 D242 := h_E_set eD242 (by decide)
        obtain ⟨rfl, rfl⟩ := ga_end h
        exact hw_ret hP242 (x_vret dJ4_deleteEntry_245 rfl hq)
    · rw [if_neg c207] at h
      refine hw_1 (fun k => x_acmp_ne (tgt := 221) dJ4_deleteEntry_207 (by decide) hc207_1 (fun z => absurd z c207) (fun _ => k)) ?_
      refine hw_1 (fun k => x_aload_n dJ4_deleteEntry_210 rfl k) ?_
      refine hw_1 (fun k => x_getf (v := D x1 4) dJ4_deleteEntry_211 fl_J4_124 hc193_0 rfl k) ?_
      refine hw_1 (fun k => x_null dJ4_deleteEntry_214 k) ?_
      replace h := ga_let_some h; obtain ⟨D215, eD215, h⟩ := h
      refine hw_set eD215 (Int.le_trans (by decide) (hkge_76 hc204_0)) (by decide) (fun k => x_putf dJ4_deleteEntry_215 fl_J4_111 rfl hc204_0 (hkge_76 hc204_0) trivial k) ?_
      have hP215 : h_P D215 := hP.set eD215 (hkge_76 hc204_0) (by decide) (hPn hc204_0 rfl)
      have hE215 : h_E D D215 := h_E_set eD215 (by decide)
      refine hw_1 (fun k => x_goto (tgt := 240) dJ4_deleteEntry_218 (by decide) k) ?_
      refine hw_1 (fun k => x_aload_n dJ4_deleteEntry_240 rfl k) ?_
      refine hw_1 (fun k => x_null dJ4_deleteEntry_241 k) ?_
      replace h := ga_let_some h; obtain ⟨D242, eD242, h⟩ := h
      refine hw_set eD242 (Int.le_trans (by decide) (hkge_76 (h_kx hE215 hc193_0 (by decide)))) (by decide) (fun k => x_putf dJ4_deleteEntry_242 fl_J4_124 rfl (h_kx hE215 hc193_0 (by decide)) (hkge_76 (h_kx hE215 hc193_0 (by decide))) trivial k) ?_
      have hP242 : h_P D242 := hP215.set eD242 (hkge_76 (h_kx hE215 hc193_0 (by decide))) (by decide) (hPn (h_kx hE215 hc193_0 (by decide)) rfl)
      have hE242 : h_E D215 D242 := h_E_set eD242 (by decide)
      obtain ⟨rfl, rfl⟩ := ga_end h
      exact hw_ret hP242 (x_vret dJ4_deleteEntry_245 rfl hq)
theorem h_J4_deleteEntry_j133_ok {G : aw_G} {M0 : aw_M} {D' : ga_D} {Q : Option aw_V → aw_M → Prop} {r : Int} (hq : Q none (hM D')) {x0 x1 x2 : Int} {D : ga_D} (hP : h_P D) (h : h_J4_deleteEntry_j133 x0 x1 x2 D = some (r, D')) : aw_HW G "java/util/TreeMap" cJ4_deleteEntry none 3 2 false M0 Q aw_no D' (hn D') (hsl D') 133 [(0, (2, x0)), (1, (2, x1)), (2, (2, x2))] [] D := by
  unfold h_J4_deleteEntry_j133 at h
  refine hw_1 (fun k => x_aload_n dJ4_deleteEntry_133 rfl k) ?_
  refine hw_1 (fun k => x_aload_n dJ4_deleteEntry_134 rfl k) ?_
  refine hw_1 (fun k => x_aload_n dJ4_deleteEntry_135 rfl k) ?_
  refine hw_1 (fun k => x_null dJ4_deleteEntry_136 k) ?_
  refine hw_1 (fun k => x_dup_x1 dJ4_deleteEntry_137 rfl rfl k) ?_
  replace h := ga_ck_some h; obtain ⟨hc138_0, h⟩ := h
  replace h := ga_let_some h; obtain ⟨D138, eD138, h⟩ := h
  refine hw_set eD138 (Int.le_trans (by decide) (hkge_76 hc138_0)) (by decide) (fun k => x_putf dJ4_deleteEntry_138 fl_J4_124 rfl hc138_0 (hkge_76 hc138_0) trivial k) ?_
  have hP138 : h_P D138 := hP.set eD138 (hkge_76 hc138_0) (by decide) (hPn hc138_0 rfl)
  have hE138 : h_E D D138 := h_E_set eD138 (by decide)
  refine hw_1 (fun k => x_dup_x1 dJ4_deleteEntry_141 rfl rfl k) ?_
  replace h := ga_let_some h; obtain ⟨D142, eD142, h⟩ := h
  refine hw_set eD142 (Int.le_trans (by decide) (hkge_76 (h_kx hE138 hc138_0 (by decide)))) (by decide) (fun k => x_putf dJ4_deleteEntry_142 fl_J4_114 rfl (h_kx hE138 hc138_0 (by decide)) (hkge_76 (h_kx hE138 hc138_0 (by decide))) trivial k) ?_
  have hP142 : h_P D142 := hP138.set eD142 (hkge_76 (h_kx hE138 hc138_0 (by decide))) (by decide) (hPn (h_kx hE138 hc138_0 (by decide)) rfl)
  have hE142 : h_E D138 D142 := h_E_set eD142 (by decide)
  replace h := ga_let_some h; obtain ⟨D145, eD145, h⟩ := h
  refine hw_set eD145 (Int.le_trans (by decide) (hkge_76 (h_kx hE142 (h_kx hE138 hc138_0 (by decide)) (by decide)))) (by decide) (fun k => x_putf dJ4_deleteEntry_145 fl_J4_111 rfl (h_kx hE142 (h_kx hE138 hc138_0 (by decide)) (by decide)) (hkge_76 (h_kx hE142 (h_kx hE138 hc138_0 (by decide)) (by decide))) trivial k) ?_
  have hP145 : h_P D145 := hP142.set eD145 (hkge_76 (h_kx hE142 (h_kx hE138 hc138_0 (by decide)) (by decide))) (by decide) (hPn (h_kx hE142 (h_kx hE138 hc138_0 (by decide)) (by decide)) rfl)
  have hE145 : h_E D142 D145 := h_E_set eD145 (by decide)
  refine hw_1 (fun k => x_aload_n dJ4_deleteEntry_148 rfl k) ?_
  refine hw_1 (fun k => x_getf (v := D145 x1 5) dJ4_deleteEntry_149 fl_J4_290 (h_kx hE145 (h_kx hE142 (h_kx hE138 hc138_0 (by decide)) (by decide)) (by decide)) rfl k) ?_
  refine hw_1 (fun k => x_iconst dJ4_deleteEntry_152 (by decide) k) ?_
  by_cases c153 : D145 x1 5 ≠ 1
  · rw [if_pos c153] at h
    refine hw_1 (fun k => x_icmp_ne (tgt := 245) dJ4_deleteEntry_153 (by decide) (fun _ => k) (fun z => absurd c153 z)) ?_
    obtain ⟨rfl, rfl⟩ := ga_end h
    exact hw_ret hP145 (x_vret dJ4_deleteEntry_245 rfl hq)
  · rw [if_neg c153] at h
    refine hw_1 (fun k => x_icmp_ne (tgt := 245) dJ4_deleteEntry_153 (by decide) (fun z => absurd z c153) (fun _ => k)) ?_
    refine hw_1 (fun k => x_aload_n dJ4_deleteEntry_156 rfl k) ?_
    refine hw_1 (fun k => x_aload_n dJ4_deleteEntry_157 rfl k) ?_
    replace h := ga_ck_some h; obtain ⟨hc158_0, h⟩ := h
    replace h := ga_bind_some h; obtain ⟨r158, D158, g158, h⟩ := h
    have hR158 := (h_J4_fixAfterDeletion_ok (G := G) hP145 g158)
    obtain ⟨hP158, hE158, -⟩ := id hR158
    refine hw_call (rest := []) hR158 (fun hc hk9 => x_callV (as := [(2, x2)]) (rest := []) dJ4_deleteEntry_158 hc (lw_V q4649 q4651 qs45 q403 q4652) hc158_0 rfl rfl (show _ ∧ _ ∧ _ ∧ _ = some 1 from by decide +kernel) (by decide) (by decide) rfl (Nat.le_of_ble_eq_true rfl) hk9 aw_nox) ?_
    refine hw_1 (fun k => x_goto (tgt := 245) dJ4_deleteEntry_161 (by decide) k) ?_
    obtain ⟨rfl, rfl⟩ := ga_end h
    exact hw_ret hP158 (x_vret dJ4_deleteEntry_245 rfl hq)
theorem h_J4_deleteEntry_j75_ok {G : aw_G} {M0 : aw_M} {D' : ga_D} {Q : Option aw_V → aw_M → Prop} {r : Int} (hq : Q none (hM D')) {x0 x1 s0 : Int} {D : ga_D} (hP : h_P D) (h : h_J4_deleteEntry_j75 x0 x1 s0 D = some (r, D')) : aw_HW G "java/util/TreeMap" cJ4_deleteEntry none 3 2 false M0 Q aw_no D' (hn D') (hsl D') 75 [(0, (2, x0)), (1, (2, x1))] [(2, s0)] D := by
  unfold h_J4_deleteEntry_j75 at h
  refine hw_1 (fun k => x_astore_n (ls' := [(2, (2, s0)), (0, (2, x0)), (1, (2, x1))]) dJ4_deleteEntry_75 (by decide) rfl k) ?_
  refine hw_1 (fun k => x_aload_n dJ4_deleteEntry_76 rfl k) ?_
  by_cases c77 : s0 = 0
  · rw [if_pos c77] at h
    refine hw_1 (fun k => x_ifnull (tgt := 164) dJ4_deleteEntry_77 (by decide) (fun _ => k) (fun z => absurd c77 z)) ?_
    refine hw_1 (fun k => x_aload_n dJ4_deleteEntry_164 rfl k) ?_
    replace h := ga_ck_some h; obtain ⟨hc165_0, h⟩ := h
    refine hw_1 (fun k => x_getf (v := D x1 4) dJ4_deleteEntry_165 fl_J4_124 hc165_0 rfl k) ?_
    by_cases c168 : D x1 4 ≠ 0
    · rw [if_pos c168] at h
      refine hw_1 (fun k => x_ifnonnull (tgt := 179) dJ4_deleteEntry_168 (by decide) (fun _ => k) (fun z => absurd c168 z)) ?_
      refine hw_1 (fun k => x_aload_n dJ4_deleteEntry_179 rfl k) ?_
      refine hw_1 (fun k => x_getf (v := D x1 5) dJ4_deleteEntry_180 fl_J4_290 hc165_0 rfl k) ?_
      refine hw_1 (fun k => x_iconst dJ4_deleteEntry_183 (by decide) k) ?_
      by_cases c184 : D x1 5 ≠ 1
      · rw [if_pos c184] at h
        refine hw_1 (fun k => x_icmp_ne (tgt := 192) dJ4_deleteEntry_184 (by decide) (fun _ => k) (fun z => absurd c184 z)) ?_
        refine hw_locs [2] (ls' := [(1, (2, x1))]) rfl ?_
        refine h_J4_deleteEntry_j192_ok hq hP h
      · rw [if_neg c184] at h
        refine hw_1 (fun k => x_icmp_ne (tgt := 192) dJ4_deleteEntry_184 (by decide) (fun z => absurd z c184) (fun _ => k)) ?_
        refine hw_1 (fun k => x_aload_n dJ4_deleteEntry_187 rfl k) ?_
        refine hw_1 (fun k => x_aload_n dJ4_deleteEntry_188 rfl k) ?_
        replace h := ga_ck_some h; obtain ⟨hc189_0, h⟩ := h
        replace h := ga_bind_some h; obtain ⟨r189, D189, g189, h⟩ := h
        have hR189 := (h_J4_fixAfterDeletion_ok (G := G) hP g189)
        obtain ⟨hP189, hE189, -⟩ := id hR189
        refine hw_call (rest := []) hR189 (fun hc hk9 => x_callV (as := [(2, x1)]) (rest := []) dJ4_deleteEntry_189 hc (lw_V q4649 q4651 qs45 q403 q4652) hc189_0 rfl rfl (show _ ∧ _ ∧ _ ∧ _ = some 1 from by decide +kernel) (by decide) (by decide) rfl (Nat.le_of_ble_eq_true rfl) hk9 aw_nox) ?_
        refine hw_locs [2] (ls' := [(1, (2, x1))]) rfl ?_
        refine h_J4_deleteEntry_j192_ok hq hP189 h
    · rw [if_neg c168] at h
      refine hw_1 (fun k => x_ifnonnull (tgt := 179) dJ4_deleteEntry_168 (by decide) (fun z => absurd z c168) (fun _ => k)) ?_
      refine hw_1 (fun k => x_aload_n dJ4_deleteEntry_171 rfl k) ?_
      refine hw_1 (fun k => x_null dJ4_deleteEntry_172 k) ?_
      replace h := ga_ck_some h; obtain ⟨hc173_0, h⟩ := h
      replace h := ga_let_some h; obtain ⟨D173, eD173, h⟩ := h
      refine hw_set eD173 (Int.le_trans (by decide) (hkge_61 hc173_0)) (by decide) (fun k => x_putf dJ4_deleteEntry_173 fl_J4_101 rfl hc173_0 (hkge_61 hc173_0) trivial k) ?_
      have hP173 : h_P D173 := hP.set eD173 (hkge_61 hc173_0) (by decide) (hPn hc173_0 rfl)
      have hE173 : h_E D D173 := h_E_set eD173 (by decide)
      refine hw_1 (fun k => x_goto (tgt := 245) dJ4_deleteEntry_176 (by decide) k) ?_
      obtain ⟨rfl, rfl⟩ := ga_end h
      exact hw_ret hP173 (x_vret dJ4_deleteEntry_245 rfl hq)
  · rw [if_neg c77] at h
    refine hw_1 (fun k => x_ifnull (tgt := 164) dJ4_deleteEntry_77 (by decide) (fun z => absurd z c77) (fun _ => k)) ?_
    refine hw_1 (fun k => x_aload_n dJ4_deleteEntry_80 rfl k) ?_
    refine hw_1 (fun k => x_aload_n dJ4_deleteEntry_81 rfl k) ?_
    replace h := ga_ck_some h; obtain ⟨hc82_0, h⟩ := h
    refine hw_1 (fun k => x_getf (v := D x1 4) dJ4_deleteEntry_82 fl_J4_124 hc82_0 rfl k) ?_
    replace h := ga_ck_some h; obtain ⟨hc85_1, h⟩ := h
    replace h := ga_let_some h; obtain ⟨D85, eD85, h⟩ := h
    refine hw_set eD85 (Int.le_trans (by decide) (hkge_76 hc85_1)) (by decide) (fun k => x_putf dJ4_deleteEntry_85 fl_J4_124 rfl hc85_1 (hkge_76 hc85_1) trivial k) ?_
    have hP85 : h_P D85 := hP.set eD85 (hkge_76 hc85_1) (by decide) (hPn hc85_1 rfl)
    have hE85 : h_E D D85 := h_E_set eD85 (by decide)
    refine hw_1 (fun k => x_aload_n dJ4_deleteEntry_88 rfl k) ?_
    refine hw_1 (fun k => x_getf (v := D85 x1 4) dJ4_deleteEntry_89 fl_J4_124 (h_kx hE85 hc82_0 (by decide)) rfl k) ?_
    by_cases c92 : D85 x1 4 ≠ 0
    · rw [if_pos c92] at h
      refine hw_1 (fun k => x_ifnonnull (tgt := 103) dJ4_deleteEntry_92 (by decide) (fun _ => k) (fun z => absurd c92 z)) ?_
      refine hw_1 (fun k => x_aload_n dJ4_deleteEntry_103 rfl k) ?_
      refine hw_1 (fun k => x_aload_n dJ4_deleteEntry_104 rfl k) ?_
      refine hw_1 (fun k => x_getf (v := D85 x1 4) dJ4_deleteEntry_105 fl_J4_124 (h_kx hE85 hc82_0 (by decide)) rfl k) ?_
      replace h := ga_ck_some h; obtain ⟨hc108_0, h⟩ := h
      refine hw_1 (fun k => x_getf (v := D85 (D85 x1 4) 2) dJ4_deleteEntry_108 fl_J4_111 hc108_0 rfl k) ?_
      replace h := ga_ck_some h; obtain ⟨hc111_1, h⟩ := h
      by_cases c111 : x1 ≠ D85 (D85 x1 4) 2
      · rw [if_pos c111] at h
        refine hw_1 (fun k => x_acmp_ne (tgt := 125) dJ4_deleteEntry_111 (by decide) hc111_1 (fun _ => k) (fun z => absurd c111 z)) ?_
        refine hw_1 (fun k => x_aload_n dJ4_deleteEntry_125 rfl k) ?_
        refine hw_1 (fun k => x_getf (v := D85 x1 4) dJ4_deleteEntry_126 fl_J4_124 (h_kx hE85 hc82_0 (by decide)) rfl k) ?_
        refine hw_1 (fun k => x_aload_n dJ4_deleteEntry_129 rfl k) ?_
        replace h := ga_let_some h; obtain ⟨D130, eD130, h⟩ := h
        refine hw_set eD130 (Int.le_trans (by decide) (hkge_76 hc108_0)) (by decide) (fun k => x_putf dJ4_deleteEntry_130 fl_J4_114 rfl hc108_0 (hkge_76 hc108_0) trivial k) ?_
        have hP130 : h_P D130 := hP85.set eD130 (hkge_76 hc108_0) (by decide) (hPn hc108_0 rfl)
        have hE130 : h_E D85 D130 := h_E_set eD130 (by decide)
        refine hw_locs [1, 2, 0] (ls' := [(0, (2, x0)), (1, (2, x1)), (2, (2, s0))]) rfl ?_
        refine h_J4_deleteEntry_j133_ok hq hP130 h
      · rw [if_neg c111] at h
        refine hw_1 (fun k => x_acmp_ne (tgt := 125) dJ4_deleteEntry_111 (by decide) hc111_1 (fun z => absurd z c111) (fun _ => k)) ?_
        refine hw_1 (fun k => x_aload_n dJ4_deleteEntry_114 rfl k) ?_
        refine hw_1 (fun k => x_getf (v := D85 x1 4) dJ4_deleteEntry_115 fl_J4_124 (h_kx hE85 hc82_0 (by decide)) rfl k) ?_
        refine hw_1 (fun k => x_aload_n dJ4_deleteEntry_118 rfl k) ?_
        replace h := ga_let_some h; obtain ⟨D119, eD119, h⟩ := h
        refine hw_set eD119 (Int.le_trans (by decide) (hkge_76 hc108_0)) (by decide) (fun k => x_putf dJ4_deleteEntry_119 fl_J4_111 rfl hc108_0 (hkge_76 hc108_0) trivial k) ?_
        have hP119 : h_P D119 := hP85.set eD119 (hkge_76 hc108_0) (by decide) (hPn hc108_0 rfl)
        have hE119 : h_E D85 D119 := h_E_set eD119 (by decide)
        refine hw_1 (fun k => x_goto (tgt := 133) dJ4_deleteEntry_122 (by decide) k) ?_
        refine hw_locs [1, 2, 0] (ls' := [(0, (2, x0)), (1, (2, x1)), (2, (2, s0))]) rfl ?_
        refine h_J4_deleteEntry_j133_ok hq hP119 h
    · rw [if_neg c92] at h
      refine hw_1 (fun k => x_ifnonnull (tgt := 103) dJ4_deleteEntry_92 (by decide) (fun z => absurd z c92) (fun _ => k)) ?_
      refine hw_1 (fun k => x_aload_n dJ4_deleteEntry_95 rfl k) ?_
      refine hw_1 (fun k => x_aload_n dJ4_deleteEntry_96 rfl k) ?_
      replace h := ga_ck_some h; obtain ⟨hc97_0, h⟩ := h
      replace h := ga_let_some h; obtain ⟨D97, eD97, h⟩ := h
      refine hw_set eD97 (Int.le_trans (by decide) (hkge_61 hc97_0)) (by decide) (fun k => x_putf dJ4_deleteEntry_97 fl_J4_101 rfl hc97_0 (hkge_61 hc97_0) trivial k) ?_
      have hP97 : h_P D97 := hP85.set eD97 (hkge_61 hc97_0) (by decide) (hPn hc97_0 rfl)
      have hE97 : h_E D85 D97 := h_E_set eD97 (by decide)
      refine hw_1 (fun k => x_goto (tgt := 133) dJ4_deleteEntry_100 (by decide) k) ?_
      refine hw_locs [1, 2, 0] (ls' := [(0, (2, x0)), (1, (2, x1)), (2, (2, s0))]) rfl ?_
      refine h_J4_deleteEntry_j133_ok hq hP97 h
theorem h_J4_deleteEntry_j57_ok {G : aw_G} {M0 : aw_M} {D' : ga_D} {Q : Option aw_V → aw_M → Prop} {r : Int} (hq : Q none (hM D')) {x0 x1 : Int} {D : ga_D} (hP : h_P D) (h : h_J4_deleteEntry_j57 x0 x1 D = some (r, D')) : aw_HW G "java/util/TreeMap" cJ4_deleteEntry none 3 2 false M0 Q aw_no D' (hn D') (hsl D') 57 [(0, (2, x0)), (1, (2, x1))] [] D := by
  unfold h_J4_deleteEntry_j57 at h
  refine hw_1 (fun k => x_aload_n dJ4_deleteEntry_57 rfl k) ?_
  replace h := ga_ck_some h; obtain ⟨hc58_0, h⟩ := h
  refine hw_1 (fun k => x_getf (v := D x1 2) dJ4_deleteEntry_58 fl_J4_111 hc58_0 rfl k) ?_
  by_cases c61 : D x1 2 = 0
  · rw [if_pos c61] at h
    refine hw_1 (fun k => x_ifnull (tgt := 71) dJ4_deleteEntry_61 (by decide) (fun _ => k) (fun z => absurd c61 z)) ?_
    refine hw_1 (fun k => x_aload_n dJ4_deleteEntry_71 rfl k) ?_
    refine hw_1 (fun k => x_getf (v := D x1 3) dJ4_deleteEntry_72 fl_J4_114 hc58_0 rfl k) ?_
    refine h_J4_deleteEntry_j75_ok hq hP h
  · rw [if_neg c61] at h
    refine hw_1 (fun k => x_ifnull (tgt := 71) dJ4_deleteEntry_61 (by decide) (fun z => absurd z c61) (fun _ => k)) ?_
    refine hw_1 (fun k => x_aload_n dJ4_deleteEntry_64 rfl k) ?_
    refine hw_1 (fun k => x_getf (v := D x1 2) dJ4_deleteEntry_65 fl_J4_111 hc58_0 rfl k) ?_
    refine hw_1 (fun k => x_goto (tgt := 75) dJ4_deleteEntry_68 (by decide) k) ?_
    refine h_J4_deleteEntry_j75_ok hq hP h
theorem h_J4_deleteEntry_ok {G : aw_G} {D D' : ga_D} {r : Int} {x0 x1 : Int} (hP : h_P D) (h : h_J4_deleteEntry x0 x1 D = some (r, D')) : aw_HR yJ4_deleteEntry cJ4_deleteEntry 3 none 2 G [(2, x0), (2, x1)] D none D' := by
  unfold h_J4_deleteEntry at h
  refine hw_body (own := "java/util/TreeMap") (ini := false) (ls := [(0, (2, x0)), (1, (2, x1))]) rfl rfl (fun h => by cases h) (Nat.le_of_ble_eq_true rfl) rfl fun Q hq => ?_
  refine hw_1 (fun k => x_aload_n dJ4_deleteEntry_0 rfl k) ?_
  refine hw_1 (fun k => x_dup dJ4_deleteEntry_1 rfl k) ?_
  replace h := ga_ck_some h; obtain ⟨hc2_0, h⟩ := h
  refine hw_1 (fun k => x_getf (v := D x0 5) dJ4_deleteEntry_2 fl_J4_13 hc2_0 rfl k) ?_
  refine hw_1 (fun k => x_iconst dJ4_deleteEntry_5 (by decide) k) ?_
  refine hw_1 (fun k => x_iadd dJ4_deleteEntry_6 rfl k) ?_
  replace h := ga_let_some h; obtain ⟨D7, eD7, h⟩ := h
  refine hw_set eD7 (Int.le_trans (by decide) (hkge_61 hc2_0)) (by decide) (fun k => x_putf dJ4_deleteEntry_7 fl_J4_13 rfl hc2_0 (hkge_61 hc2_0) trivial k) ?_
  have hP7 : h_P D7 := hP.set eD7 (hkge_61 hc2_0) (by decide) (hPn hc2_0 rfl)
  have hE7 : h_E D D7 := h_E_set eD7 (by decide)
  refine hw_1 (fun k => x_aload_n dJ4_deleteEntry_10 rfl k) ?_
  refine hw_1 (fun k => x_dup dJ4_deleteEntry_11 rfl k) ?_
  refine hw_1 (fun k => x_getf (v := D7 x0 4) dJ4_deleteEntry_12 fl_J4_7 (h_kx hE7 hc2_0 (by decide)) rfl k) ?_
  refine hw_1 (fun k => x_iconst dJ4_deleteEntry_15 (by decide) k) ?_
  refine hw_1 (fun k => x_isub dJ4_deleteEntry_16 rfl k) ?_
  replace h := ga_let_some h; obtain ⟨D17, eD17, h⟩ := h
  refine hw_set eD17 (Int.le_trans (by decide) (hkge_61 (h_kx hE7 hc2_0 (by decide)))) (by decide) (fun k => x_putf dJ4_deleteEntry_17 fl_J4_7 rfl (h_kx hE7 hc2_0 (by decide)) (hkge_61 (h_kx hE7 hc2_0 (by decide))) trivial k) ?_
  have hP17 : h_P D17 := hP7.set eD17 (hkge_61 (h_kx hE7 hc2_0 (by decide))) (by decide) (hPn (h_kx hE7 hc2_0 (by decide)) rfl)
  have hE17 : h_E D7 D17 := h_E_set eD17 (by decide)
  refine hw_1 (fun k => x_aload_n dJ4_deleteEntry_20 rfl k) ?_
  replace h := ga_ck_some h; obtain ⟨hc21_1, h⟩ := h
  refine hw_1 (fun k => x_getf (v := D17 x1 2) dJ4_deleteEntry_21 fl_J4_111 hc21_1 rfl k) ?_
  by_cases c24 : D17 x1 2 = 0
  · rw [if_pos c24] at h
    refine hw_1 (fun k => x_ifnull (tgt := 57) dJ4_deleteEntry_24 (by decide) (fun _ => k) (fun z => absurd c24 z)) ?_
    refine h_J4_deleteEntry_j57_ok hq hP17 h
  · rw [if_neg c24] at h
    refine hw_1 (fun k => x_ifnull (tgt := 57) dJ4_deleteEntry_24 (by decide) (fun z => absurd z c24) (fun _ => k)) ?_
    refine hw_1 (fun k => x_aload_n dJ4_deleteEntry_27 rfl k) ?_
    refine hw_1 (fun k => x_getf (v := D17 x1 3) dJ4_deleteEntry_28 fl_J4_114 hc21_1 rfl k) ?_
    by_cases c31 : D17 x1 3 = 0
    · rw [if_pos c31] at h
      refine hw_1 (fun k => x_ifnull (tgt := 57) dJ4_deleteEntry_31 (by decide) (fun _ => k) (fun z => absurd c31 z)) ?_
      refine h_J4_deleteEntry_j57_ok hq hP17 h
    · rw [if_neg c31] at h
      refine hw_1 (fun k => x_ifnull (tgt := 57) dJ4_deleteEntry_31 (by decide) (fun z => absurd z c31) (fun _ => k)) ?_
      refine hw_1 (fun k => x_aload_n dJ4_deleteEntry_34 rfl k) ?_
      replace h := ga_bind_some h; obtain ⟨r35, D35, g35, h⟩ := h
      have hR35 := (h_J4_successor_ok (G := G) hP17 g35)
      obtain ⟨hP35, hE35, -⟩ := id hR35
      refine hw_call (rest := []) hR35 (fun hc hk9 => x_callS (as := [(2, x1)]) (rest := []) dJ4_deleteEntry_35 hc (lw_S q4648 q3043 q403 q3044) (show _ ∧ _ ∧ _ = some 1 from by decide +kernel) (by decide) (by decide) rfl (Nat.le_of_ble_eq_true rfl) hk9 aw_nox) ?_
      refine hw_1 (fun k => x_astore_n (ls' := [(2, (2, r35)), (0, (2, x0)), (1, (2, x1))]) dJ4_deleteEntry_38 (by decide) rfl k) ?_
      refine hw_1 (fun k => x_aload_n dJ4_deleteEntry_39 rfl k) ?_
      refine hw_1 (fun k => x_aload_n dJ4_deleteEntry_40 rfl k) ?_
      replace h := ga_ck_some h; obtain ⟨hc41_0, h⟩ := h
      refine hw_1 (fun k => x_getf (v := D35 r35 0) dJ4_deleteEntry_41 fl_J4_105 hc41_0 rfl k) ?_
      replace h := ga_let_some h; obtain ⟨D44, eD44, h⟩ := h
      refine hw_set eD44 (Int.le_trans (by decide) (hkge_76 (h_kx hE35 hc21_1 (by decide)))) (by decide) (fun k => x_putf dJ4_deleteEntry_44 fl_J4_105 rfl (h_kx hE35 hc21_1 (by decide)) (hkge_76 (h_kx hE35 hc21_1 (by decide))) trivial k) ?_
      have hP44 : h_P D44 := hP35.set eD44 (hkge_76 (h_kx hE35 hc21_1 (by decide))) (by decide) (hPn (h_kx hE35 hc21_1 (by decide)) rfl)
      have hE44 : h_E D35 D44 := h_E_set eD44 (by decide)
      refine hw_1 (fun k => x_aload_n dJ4_deleteEntry_47 rfl k) ?_
      refine hw_1 (fun k => x_aload_n dJ4_deleteEntry_48 rfl k) ?_
      refine hw_1 (fun k => x_getf (v := D44 r35 1) dJ4_deleteEntry_49 fl_J4_58 (h_kx hE44 hc41_0 (by decide)) rfl k) ?_
      replace h := ga_let_some h; obtain ⟨D52, eD52, h⟩ := h
      refine hw_set eD52 (Int.le_trans (by decide) (hkge_76 (h_kx hE44 (h_kx hE35 hc21_1 (by decide)) (by decide)))) (by decide) (fun k => x_putf dJ4_deleteEntry_52 fl_J4_58 rfl (h_kx hE44 (h_kx hE35 hc21_1 (by decide)) (by decide)) (hkge_76 (h_kx hE44 (h_kx hE35 hc21_1 (by decide)) (by decide))) trivial k) ?_
      have hP52 : h_P D52 := hP44.set eD52 (hkge_76 (h_kx hE44 (h_kx hE35 hc21_1 (by decide)) (by decide))) (by decide) (hPn (h_kx hE44 (h_kx hE35 hc21_1 (by decide)) (by decide)) rfl)
      have hE52 : h_E D44 D52 := h_E_set eD52 (by decide)
      refine hw_1 (fun k => x_aload_n dJ4_deleteEntry_55 rfl k) ?_
      refine hw_1 (fun k => x_astore_n (ls' := [(1, (2, r35)), (2, (2, r35)), (0, (2, x0))]) dJ4_deleteEntry_56 (by decide) rfl k) ?_
      refine hw_locs [2, 0] (ls' := [(0, (2, x0)), (1, (2, r35))]) rfl ?_
      refine h_J4_deleteEntry_j57_ok hq hP52 h
theorem h_J4_getFloorEntry_l5_ok {G : aw_G} {M0 : aw_M} {D' : ga_D} {Q : Option aw_V → aw_M → Prop} {r : Int} (hq : Q (some (2, r)) (hM D')) {k38 : Int → ga_D → ga_S} {k59 : Int → ga_D → ga_S} {k100 : Int → ga_D → ga_S} {k105 : ga_D → ga_S} (hk38 : ∀ (x2 : Int) (D : ga_D), h_P D → k38 x2 D = some (r, D') → aw_HW G "java/util/TreeMap" cJ4_getFloorEntry (some (.object "java/util/TreeMap$Entry")) 6 4 false M0 Q aw_no D' (hn D') (hsl D') 38 [(2, (2, x2))] [] D) (hk59 : ∀ (x2 : Int) (D : ga_D), h_P D → k59 x2 D = some (r, D') → aw_HW G "java/util/TreeMap" cJ4_getFloorEntry (some (.object "java/util/TreeMap$Entry")) 6 4 false M0 Q aw_no D' (hn D') (hsl D') 59 [(2, (2, x2))] [] D) (hk100 : ∀ (x2 : Int) (D : ga_D), h_P D → k100 x2 D = some (r, D') → aw_HW G "java/util/TreeMap" cJ4_getFloorEntry (some (.object "java/util/TreeMap$Entry")) 6 4 false M0 Q aw_no D' (hn D') (hsl D') 100 [(2, (2, x2))] [] D) (hk105 : ∀ (D : ga_D), h_P D → k105 D = some (r, D') → aw_HW G "java/util/TreeMap" cJ4_getFloorEntry (some (.object "java/util/TreeMap$Entry")) 6 4 false M0 Q aw_no D' (hn D') (hsl D') 105 [] [] D) : ∀ {n : Nat} {x0 x1 x2 : Int} {D : ga_D}, h_P D → h_J4_getFloorEntry_l5 n x0 x1 x2 D k38 k59 k100 k105 = some (r, D') → aw_HW G "java/util/TreeMap" cJ4_getFloorEntry (some (.object "java/util/TreeMap$Entry")) 6 4 false M0 Q aw_no D' (hn D') (hsl D') 5 [(0, (2, x0)), (1, (2, x1)), (2, (2, x2))] [] D := by
  intro n
  induction n with
  | zero => intro x0 x1 x2 D hP h; exact absurd (h : (none : ga_S) = some (r, D')) (by intro h; cases h)
  | succ n ih =>
    intro x0 x1 x2 D hP h
    have ih : ∀ (x0 x1 x2 : Int) (D : ga_D), h_P D → h_J4_getFloorEntry_l5 n x0 x1 x2 D k38 k59 k100 k105 = some (r, D') → aw_HW G "java/util/TreeMap" cJ4_getFloorEntry (some (.object "java/util/TreeMap$Entry")) 6 4 false M0 Q aw_no D' (hn D') (hsl D') 5 [(0, (2, x0)), (1, (2, x1)), (2, (2, x2))] [] D := fun x0 x1 x2 D hP h => ih hP h
    replace h : (if x2 = 0 then (k105 D) else (ga_ck (hk D x2 = (76, 0)) (ga_ck (hk D x0 = (61, 0)) (ga_bind (h_J4_compare x0 x1 (D x2 0) D) (fun r15 D15 => if r15 ≤ 0 then (if 0 ≤ r15 then (k100 x2 D15) else (if D15 x2 2 = 0 then (k59 x2 D15) else (ga_let (D15 x2 2) (fun v55 => h_J4_getFloorEntry_l5 n x0 x1 v55 D15 k38 k59 k100 k105)))) else (if D15 x2 3 = 0 then (k38 x2 D15) else (ga_let (D15 x2 3) (fun v34 => h_J4_getFloorEntry_l5 n x0 x1 v34 D15 k38 k59 k100 k105))))))) : ga_S) = some (r, D') := h
    refine hw_1 (fun k => x_aload_n dJ4_getFloorEntry_5 rfl k) ?_
    by_cases c6 : x2 = 0
    · rw [if_pos c6] at h
      refine hw_1 (fun k => x_ifnull (tgt := 105) dJ4_getFloorEntry_6 (by decide) (fun _ => k) (fun z => absurd c6 z)) ?_
      refine hw_locs [] (ls' := []) rfl ?_
      exact hk105 _ hP h
    · rw [if_neg c6] at h
      refine hw_1 (fun k => x_ifnull (tgt := 105) dJ4_getFloorEntry_6 (by decide) (fun z => absurd z c6) (fun _ => k)) ?_
      refine hw_1 (fun k => x_aload_n dJ4_getFloorEntry_9 rfl k) ?_
      refine hw_1 (fun k => x_aload_n dJ4_getFloorEntry_10 rfl k) ?_
      refine hw_1 (fun k => x_aload_n dJ4_getFloorEntry_11 rfl k) ?_
      replace h := ga_ck_some h; obtain ⟨hc12_0, h⟩ := h
      refine hw_1 (fun k => x_getf (v := D x2 0) dJ4_getFloorEntry_12 fl_J4_105 hc12_0 rfl k) ?_
      replace h := ga_ck_some h; obtain ⟨hc15_1, h⟩ := h
      replace h := ga_bind_some h; obtain ⟨r15, D15, g15, h⟩ := h
      have hR15 := (h_J4_compare_ok (G := G) hP g15)
      obtain ⟨hP15, hE15, -⟩ := id hR15
      refine hw_call (rest := []) hR15 (fun hc hk9 => x_callV (as := [(2, x1), (2, D x2 0)]) (rest := []) dJ4_getFloorEntry_15 hc (lw_V q4248 q4249 q4250 q403 q4251) hc15_1 rfl rfl (show _ ∧ _ ∧ _ ∧ _ = some 2 from by decide +kernel) (by decide) (by decide) rfl (Nat.le_of_ble_eq_true rfl) hk9 aw_nox) ?_
      refine hw_1 (fun k => x_istore_n (ls' := [(3, (0, r15)), (0, (2, x0)), (1, (2, x1)), (2, (2, x2))]) dJ4_getFloorEntry_18 (by decide) rfl k) ?_
      refine hw_1 (fun k => x_iload_n dJ4_getFloorEntry_19 rfl k) ?_
      by_cases c20 : r15 ≤ 0
      · rw [if_pos c20] at h
        refine hw_1 (fun k => x_if_le (tgt := 40) dJ4_getFloorEntry_20 (by decide) (fun _ => k) (fun z => absurd c20 z)) ?_
        refine hw_1 (fun k => x_iload_n dJ4_getFloorEntry_40 rfl k) ?_
        by_cases c41 : 0 ≤ r15
        · rw [if_pos c41] at h
          refine hw_1 (fun k => x_if_ge (tgt := 100) dJ4_getFloorEntry_41 (by decide) (fun _ => k) (fun z => absurd c41 z)) ?_
          refine hw_locs [3] (ls' := [(2, (2, x2))]) rfl ?_
          exact hk100 _ _ hP15 h
        · rw [if_neg c41] at h
          refine hw_1 (fun k => x_if_ge (tgt := 100) dJ4_getFloorEntry_41 (by decide) (fun z => absurd z c41) (fun _ => k)) ?_
          refine hw_1 (fun k => x_aload_n dJ4_getFloorEntry_44 rfl k) ?_
          refine hw_1 (fun k => x_getf (v := D15 x2 2) dJ4_getFloorEntry_45 fl_J4_111 (h_kx hE15 hc12_0 (by decide)) rfl k) ?_
          by_cases c48 : D15 x2 2 = 0
          · rw [if_pos c48] at h
            refine hw_1 (fun k => x_ifnull (tgt := 59) dJ4_getFloorEntry_48 (by decide) (fun _ => k) (fun z => absurd c48 z)) ?_
            refine hw_locs [3] (ls' := [(2, (2, x2))]) rfl ?_
            exact hk59 _ _ hP15 h
          · rw [if_neg c48] at h
            refine hw_1 (fun k => x_ifnull (tgt := 59) dJ4_getFloorEntry_48 (by decide) (fun z => absurd z c48) (fun _ => k)) ?_
            refine hw_1 (fun k => x_aload_n dJ4_getFloorEntry_51 rfl k) ?_
            refine hw_1 (fun k => x_getf (v := D15 x2 2) dJ4_getFloorEntry_52 fl_J4_111 (h_kx hE15 hc12_0 (by decide)) rfl k) ?_
            replace h := ga_let_some h; obtain ⟨v55, ev55, h⟩ := h
            refine hw_nm ev55 ?_
            refine hw_1 (fun k => x_astore_n (ls' := [(2, (2, v55)), (3, (0, r15)), (0, (2, x0)), (1, (2, x1))]) dJ4_getFloorEntry_55 (by decide) rfl k) ?_
            refine hw_1 (fun k => x_goto (tgt := 102) dJ4_getFloorEntry_56 (by decide) k) ?_
            refine hw_1 (fun k => x_goto (tgt := 5) dJ4_getFloorEntry_102 (by decide) k) ?_
            refine hw_locs [2, 3, 0] (ls' := [(0, (2, x0)), (1, (2, x1)), (2, (2, v55))]) rfl ?_
            exact ih _ _ _ _ hP15 h
      · rw [if_neg c20] at h
        refine hw_1 (fun k => x_if_le (tgt := 40) dJ4_getFloorEntry_20 (by decide) (fun z => absurd z c20) (fun _ => k)) ?_
        refine hw_1 (fun k => x_aload_n dJ4_getFloorEntry_23 rfl k) ?_
        refine hw_1 (fun k => x_getf (v := D15 x2 3) dJ4_getFloorEntry_24 fl_J4_114 (h_kx hE15 hc12_0 (by decide)) rfl k) ?_
        by_cases c27 : D15 x2 3 = 0
        · rw [if_pos c27] at h
          refine hw_1 (fun k => x_ifnull (tgt := 38) dJ4_getFloorEntry_27 (by decide) (fun _ => k) (fun z => absurd c27 z)) ?_
          refine hw_locs [3] (ls' := [(2, (2, x2))]) rfl ?_
          exact hk38 _ _ hP15 h
        · rw [if_neg c27] at h
          refine hw_1 (fun k => x_ifnull (tgt := 38) dJ4_getFloorEntry_27 (by decide) (fun z => absurd z c27) (fun _ => k)) ?_
          refine hw_1 (fun k => x_aload_n dJ4_getFloorEntry_30 rfl k) ?_
          refine hw_1 (fun k => x_getf (v := D15 x2 3) dJ4_getFloorEntry_31 fl_J4_114 (h_kx hE15 hc12_0 (by decide)) rfl k) ?_
          replace h := ga_let_some h; obtain ⟨v34, ev34, h⟩ := h
          refine hw_nm ev34 ?_
          refine hw_1 (fun k => x_astore_n (ls' := [(2, (2, v34)), (3, (0, r15)), (0, (2, x0)), (1, (2, x1))]) dJ4_getFloorEntry_34 (by decide) rfl k) ?_
          refine hw_1 (fun k => x_goto (tgt := 102) dJ4_getFloorEntry_35 (by decide) k) ?_
          refine hw_1 (fun k => x_goto (tgt := 5) dJ4_getFloorEntry_102 (by decide) k) ?_
          refine hw_locs [2, 3, 0] (ls' := [(0, (2, x0)), (1, (2, x1)), (2, (2, v34))]) rfl ?_
          exact ih _ _ _ _ hP15 h
theorem h_J4_getFloorEntry_l68_ok {G : aw_G} {M0 : aw_M} {D' : ga_D} {Q : Option aw_V → aw_M → Prop} {r : Int} (hq : Q (some (2, r)) (hM D')) {k97 : Int → ga_D → ga_S} (hk97 : ∀ (x4 : Int) (D : ga_D), h_P D → k97 x4 D = some (r, D') → aw_HW G "java/util/TreeMap" cJ4_getFloorEntry (some (.object "java/util/TreeMap$Entry")) 6 4 false M0 Q aw_no D' (hn D') (hsl D') 97 [(4, (2, x4))] [] D) : ∀ {n : Nat} {x4 x5 : Int} {D : ga_D}, h_P D → h_J4_getFloorEntry_l68 n x4 x5 D k97 = some (r, D') → aw_HW G "java/util/TreeMap" cJ4_getFloorEntry (some (.object "java/util/TreeMap$Entry")) 6 4 false M0 Q aw_no D' (hn D') (hsl D') 68 [(4, (2, x4)), (5, (2, x5))] [] D := by
  intro n
  induction n with
  | zero => intro x4 x5 D hP h; exact absurd (h : (none : ga_S) = some (r, D')) (by intro h; cases h)
  | succ n ih =>
    intro x4 x5 D hP h
    have ih : ∀ (x4 x5 : Int) (D : ga_D), h_P D → h_J4_getFloorEntry_l68 n x4 x5 D k97 = some (r, D') → aw_HW G "java/util/TreeMap" cJ4_getFloorEntry (some (.object "java/util/TreeMap$Entry")) 6 4 false M0 Q aw_no D' (hn D') (hsl D') 68 [(4, (2, x4)), (5, (2, x5))] [] D := fun x4 x5 D hP h => ih hP h
    replace h : (if x4 = 0 then (k97 x4 D) else (ga_ck (hk D x4 = (76, 0)) (ga_ck (x5 = 0 ∨ 4096 ≤ x5 ∨ D x4 2 = 0 ∨ 4096 ≤ D x4 2 ∨ x5 = D x4 2) (if x5 ≠ D x4 2 then (k97 x4 D) else (ga_let (D x4 4) (fun v92 => h_J4_getFloorEntry_l68 n v92 x4 D k97))))) : ga_S) = some (r, D') := h
    refine hw_1 (fun k => x_aload dJ4_getFloorEntry_68 rfl k) ?_
    by_cases c70 : x4 = 0
    · rw [if_pos c70] at h
      refine hw_1 (fun k => x_ifnull (tgt := 97) dJ4_getFloorEntry_70 (by decide) (fun _ => k) (fun z => absurd c70 z)) ?_
      refine hw_locs [0] (ls' := [(4, (2, x4))]) rfl ?_
      exact hk97 _ _ hP h
    · rw [if_neg c70] at h
      refine hw_1 (fun k => x_ifnull (tgt := 97) dJ4_getFloorEntry_70 (by decide) (fun z => absurd z c70) (fun _ => k)) ?_
      refine hw_1 (fun k => x_aload dJ4_getFloorEntry_73 rfl k) ?_
      refine hw_1 (fun k => x_aload dJ4_getFloorEntry_75 rfl k) ?_
      replace h := ga_ck_some h; obtain ⟨hc77_0, h⟩ := h
      refine hw_1 (fun k => x_getf (v := D x4 2) dJ4_getFloorEntry_77 fl_J4_111 hc77_0 rfl k) ?_
      replace h := ga_ck_some h; obtain ⟨hc80_1, h⟩ := h
      by_cases c80 : x5 ≠ D x4 2
      · rw [if_pos c80] at h
        refine hw_1 (fun k => x_acmp_ne (tgt := 97) dJ4_getFloorEntry_80 (by decide) hc80_1 (fun _ => k) (fun z => absurd c80 z)) ?_
        refine hw_locs [0] (ls' := [(4, (2, x4))]) rfl ?_
        exact hk97 _ _ hP h
      · rw [if_neg c80] at h
        refine hw_1 (fun k => x_acmp_ne (tgt := 97) dJ4_getFloorEntry_80 (by decide) hc80_1 (fun z => absurd z c80) (fun _ => k)) ?_
        refine hw_1 (fun k => x_aload dJ4_getFloorEntry_83 rfl k) ?_
        refine hw_1 (fun k => x_astore (ls' := [(5, (2, x4)), (4, (2, x4))]) dJ4_getFloorEntry_85 (by decide) rfl k) ?_
        refine hw_1 (fun k => x_aload dJ4_getFloorEntry_87 rfl k) ?_
        refine hw_1 (fun k => x_getf (v := D x4 4) dJ4_getFloorEntry_89 fl_J4_124 hc77_0 rfl k) ?_
        replace h := ga_let_some h; obtain ⟨v92, ev92, h⟩ := h
        refine hw_nm ev92 ?_
        refine hw_1 (fun k => x_astore (ls' := [(4, (2, v92)), (5, (2, x4))]) dJ4_getFloorEntry_92 (by decide) rfl k) ?_
        refine hw_1 (fun k => x_goto (tgt := 68) dJ4_getFloorEntry_94 (by decide) k) ?_
        exact ih _ _ _ hP h
theorem h_J4_getFloorEntry_ok {G : aw_G} {D D' : ga_D} {r : Int} {x0 x1 : Int} (hP : h_P D) (h : h_J4_getFloorEntry x0 x1 D = some (r, D')) : aw_HR yJ4_getFloorEntry cJ4_getFloorEntry 6 (some (.object "java/util/TreeMap$Entry")) 4 G [(2, x0), (2, x1)] D (some (2, r)) D' := by
  unfold h_J4_getFloorEntry at h
  refine hw_body (own := "java/util/TreeMap") (ini := false) (ls := [(0, (2, x0)), (1, (2, x1))]) rfl rfl (fun h => by cases h) (Nat.le_of_ble_eq_true rfl) rfl fun Q hq => ?_
  refine hw_1 (fun k => x_aload_n dJ4_getFloorEntry_0 rfl k) ?_
  replace h := ga_ck_some h; obtain ⟨hc1_0, h⟩ := h
  refine hw_1 (fun k => x_getf (v := D x0 3) dJ4_getFloorEntry_1 fl_J4_101 hc1_0 rfl k) ?_
  replace h := ga_let_some h; obtain ⟨v4, ev4, h⟩ := h
  refine hw_nm ev4 ?_
  refine hw_1 (fun k => x_astore_n (ls' := [(2, (2, v4)), (0, (2, x0)), (1, (2, x1))]) dJ4_getFloorEntry_4 (by decide) rfl k) ?_
  refine hw_locs [1, 2, 0] (ls' := [(0, (2, x0)), (1, (2, x1)), (2, (2, v4))]) rfl ?_
  refine h_J4_getFloorEntry_l5_ok hq (fun x2 D38 hP h => ?_) (fun x2 D59 hP h => ?_) (fun x2 D100 hP h => ?_) (fun D105 hP h => ?_) hP h
  · refine hw_1 (fun k => x_aload_n dJ4_getFloorEntry_38 rfl k) ?_
    obtain ⟨rfl, rfl⟩ := ga_end h
    exact hw_ret hP (x_aret dJ4_getFloorEntry_39 rfl (by first | exact Or.inl ⟨_, rfl⟩ | exact Or.inr ⟨_, rfl⟩) hq)
  · refine hw_1 (fun k => x_aload_n dJ4_getFloorEntry_59 rfl k) ?_
    replace h := ga_ck_some h; obtain ⟨hc60_0, h⟩ := h
    refine hw_1 (fun k => x_getf (v := D59 x2 4) dJ4_getFloorEntry_60 fl_J4_124 hc60_0 rfl k) ?_
    replace h := ga_let_some h; obtain ⟨v63, ev63, h⟩ := h
    refine hw_nm ev63 ?_
    refine hw_1 (fun k => x_astore (ls' := [(4, (2, v63)), (2, (2, x2))]) dJ4_getFloorEntry_63 (by decide) rfl k) ?_
    refine hw_1 (fun k => x_aload_n dJ4_getFloorEntry_65 rfl k) ?_
    refine hw_1 (fun k => x_astore (ls' := [(5, (2, x2)), (4, (2, v63)), (2, (2, x2))]) dJ4_getFloorEntry_66 (by decide) rfl k) ?_
    refine hw_locs [1, 0] (ls' := [(4, (2, v63)), (5, (2, x2))]) rfl ?_
    refine h_J4_getFloorEntry_l68_ok hq (fun x4 D97 hP h => ?_) hP h
    · refine hw_1 (fun k => x_aload dJ4_getFloorEntry_97 rfl k) ?_
      obtain ⟨rfl, rfl⟩ := ga_end h
      exact hw_ret hP (x_aret dJ4_getFloorEntry_99 rfl (by first | exact Or.inl ⟨_, rfl⟩ | exact Or.inr ⟨_, rfl⟩) hq)
  · refine hw_1 (fun k => x_aload_n dJ4_getFloorEntry_100 rfl k) ?_
    obtain ⟨rfl, rfl⟩ := ga_end h
    exact hw_ret hP (x_aret dJ4_getFloorEntry_101 rfl (by first | exact Or.inl ⟨_, rfl⟩ | exact Or.inr ⟨_, rfl⟩) hq)
  · refine hw_1 (fun k => x_null dJ4_getFloorEntry_105 k) ?_
    obtain ⟨rfl, rfl⟩ := ga_end h
    exact hw_ret hP (x_aret dJ4_getFloorEntry_106 rfl (by first | exact Or.inl ⟨_, rfl⟩ | exact Or.inr ⟨_, rfl⟩) hq)
theorem h_J44_getKey_ok {G : aw_G} {D D' : ga_D} {r : Int} {x0 : Int} (hP : h_P D) (h : h_J44_getKey x0 D = some (r, D')) : aw_HR yJ44_getKey cJ44_getKey 1 (some (.object "java/lang/Object")) 0 G [(2, x0)] D (some (2, r)) D' := by
  unfold h_J44_getKey at h
  refine hw_body (own := "java/util/AbstractMap$SimpleImmutableEntry") (ini := false) (ls := [(0, (2, x0))]) rfl rfl (fun h => by cases h) (Nat.le_of_ble_eq_true rfl) rfl fun Q hq => ?_
  refine hw_1 (fun k => x_aload_n dJ44_getKey_0 rfl k) ?_
  replace h := ga_ck_some h; obtain ⟨hc1_0, h⟩ := h
  refine hw_1 (fun k => x_getf (v := D x0 0) dJ44_getKey_1 fl_J44_7 hc1_0 rfl k) ?_
  obtain ⟨rfl, rfl⟩ := ga_end h
  exact hw_ret hP (x_aret dJ44_getKey_4 rfl (by first | exact Or.inl ⟨_, rfl⟩ | exact Or.inr ⟨_, rfl⟩) hq)
theorem h_J44_getValue_ok {G : aw_G} {D D' : ga_D} {r : Int} {x0 : Int} (hP : h_P D) (h : h_J44_getValue x0 D = some (r, D')) : aw_HR yJ44_getValue cJ44_getValue 1 (some (.object "java/lang/Object")) 0 G [(2, x0)] D (some (2, r)) D' := by
  unfold h_J44_getValue at h
  refine hw_body (own := "java/util/AbstractMap$SimpleImmutableEntry") (ini := false) (ls := [(0, (2, x0))]) rfl rfl (fun h => by cases h) (Nat.le_of_ble_eq_true rfl) rfl fun Q hq => ?_
  refine hw_1 (fun k => x_aload_n dJ44_getValue_0 rfl k) ?_
  replace h := ga_ck_some h; obtain ⟨hc1_0, h⟩ := h
  refine hw_1 (fun k => x_getf (v := D x0 1) dJ44_getValue_1 fl_J44_13 hc1_0 rfl k) ?_
  obtain ⟨rfl, rfl⟩ := ga_end h
  exact hw_ret hP (x_aret dJ44_getValue_4 rfl (by first | exact Or.inl ⟨_, rfl⟩ | exact Or.inr ⟨_, rfl⟩) hq)
theorem h_J44_init_ok {G : aw_G} {D D' : ga_D} {r : Int} {x0 x1 : Int} (hx0 : 0 < x0) (hP : h_P D) (h : h_J44_init x0 x1 D = some (r, D')) : aw_HR yJ44_init cJ44_init 2 none 1 G [(2, x0), (2, x1)] D none D' := by
  unfold h_J44_init at h
  refine hw_body (own := "java/util/AbstractMap$SimpleImmutableEntry") (ini := true) (ls := [(0, (2, x0)), (1, (2, x1))]) rfl rfl (fun _ => rfl) (Nat.le_of_ble_eq_true rfl) rfl fun Q hq => ?_
  refine hw_1 (fun k => x_aload_n dJ44_init_0 rfl k) ?_
  refine hw_1 (fun k => x_objInit0 dJ44_init_1 q5084 q512 q513 hx0 (by decide) (Nat.le_of_ble_eq_true rfl) k) ?_
  refine hw_1 (fun k => x_aload_n dJ44_init_4 rfl k) ?_
  refine hw_1 (fun k => x_aload_n dJ44_init_5 rfl k) ?_
  replace h := ga_bind_some h; obtain ⟨r6, D6, g6, h⟩ := h
  have hS6 : h_P D6 ∧ h_E D D6 ∧ ∃ mc ms : Nat, hn D + mc = hn D6 ∧ hsl D + ms = hsl D6 ∧ ∀ {c sl : Nat}, aw_W G "java/util/AbstractMap$SimpleImmutableEntry" cJ44_init none 2 1 true (hM D) Q aw_no c sl 11 [(0, (2, x0)), (1, (2, x1))] [(2, r6), (2, x0)] (hM D6) → aw_W G "java/util/AbstractMap$SimpleImmutableEntry" cJ44_init none 2 1 true (hM D) Q aw_no (c + mc) (sl + ms) 6 [(0, (2, x0)), (1, (2, x1))] [(2, x1), (2, x0)] (hM D) := by
    by_cases w6_74 : hk D x1 = (74, 0)
    · rw [if_pos w6_74] at g6
      have hR := (h_J31_getKey_ok (G := G) hP g6)
      exact hw_callM (rest := [(2, x0)]) hR (fun hc hk9 => x_callF (C := "java/util/HashMap$Node") (as := []) (rest := [(2, x0)]) dJ44_init_6 hc q4498 q5086 (by decide +kernel) q4494 q4496 q486 q4497 q4495 q4493 w6_74 rfl rfl (show _ = some 0 from by decide +kernel) (by decide) (by decide) rfl (Nat.le_of_ble_eq_true rfl) hk9 aw_nox)
    rw [if_neg w6_74] at g6
    by_cases w6_75 : hk D x1 = (75, 0)
    · rw [if_pos w6_75] at g6
      have hR := (h_J31_getKey_ok (G := G) hP g6)
      exact hw_callM (rest := [(2, x0)]) hR (fun hc hk9 => x_callF (C := "java/util/HashMap$TreeNode") (as := []) (rest := [(2, x0)]) dJ44_init_6 hc q4498 q5086 (by decide +kernel) q4500 q4496 q486 q4497 q4501 q4499 w6_75 rfl rfl (show _ = some 0 from by decide +kernel) (by decide) (by decide) rfl (Nat.le_of_ble_eq_true rfl) hk9 aw_nox)
    rw [if_neg w6_75] at g6
    by_cases w6_76 : hk D x1 = (76, 0)
    · rw [if_pos w6_76] at g6
      have hR := (h_J35_getKey_ok (G := G) hP g6)
      exact hw_callM (rest := [(2, x0)]) hR (fun hc hk9 => x_callF (C := "java/util/TreeMap$Entry") (as := []) (rest := [(2, x0)]) dJ44_init_6 hc q4507 q5086 (by decide +kernel) q4503 q4505 q493 q4506 q4504 q4502 w6_76 rfl rfl (show _ = some 0 from by decide +kernel) (by decide) (by decide) rfl (Nat.le_of_ble_eq_true rfl) hk9 aw_nox)
    rw [if_neg w6_76] at g6
    by_cases w6_83 : hk D x1 = (83, 0)
    · rw [if_pos w6_83] at g6
      have hR := (h_J44_getKey_ok (G := G) hP g6)
      exact hw_callM (rest := [(2, x0)]) hR (fun hc hk9 => x_callF (C := "java/util/AbstractMap$SimpleImmutableEntry") (as := []) (rest := [(2, x0)]) dJ44_init_6 hc q4492 q5086 (by decide +kernel) q4488 q4490 q503 q4491 q4489 q4487 w6_83 rfl rfl (show _ = some 0 from by decide +kernel) (by decide) (by decide) rfl (Nat.le_of_ble_eq_true rfl) hk9 aw_nox)
    rw [if_neg w6_83] at g6
    exact absurd g6 (by intro h; cases h)
  obtain ⟨hP6, hE6, hS6⟩ := hS6
  refine hw_go ⟨hE6, hS6⟩ ?_
  replace h := ga_ck_some h; obtain ⟨hc11_0, h⟩ := h
  replace h := ga_let_some h; obtain ⟨D11, eD11, h⟩ := h
  refine hw_set eD11 (Int.le_trans (by decide) (hkge_83 hc11_0)) (by decide) (fun k => x_putfF dJ44_init_11 fl_J44_7 rfl rfl hc11_0 (hkge_83 hc11_0) trivial k) ?_
  have hP11 : h_P D11 := hP6.set eD11 (hkge_83 hc11_0) (by decide) (hPn hc11_0 rfl)
  have hE11 : h_E D6 D11 := h_E_set eD11 (by decide)
  refine hw_1 (fun k => x_aload_n dJ44_init_14 rfl k) ?_
  refine hw_1 (fun k => x_aload_n dJ44_init_15 rfl k) ?_
  replace h := ga_bind_some h; obtain ⟨r16, D16, g16, h⟩ := h
  have hS16 : h_P D16 ∧ h_E D11 D16 ∧ ∃ mc ms : Nat, hn D11 + mc = hn D16 ∧ hsl D11 + ms = hsl D16 ∧ ∀ {c sl : Nat}, aw_W G "java/util/AbstractMap$SimpleImmutableEntry" cJ44_init none 2 1 true (hM D) Q aw_no c sl 21 [(0, (2, x0)), (1, (2, x1))] [(2, r16), (2, x0)] (hM D16) → aw_W G "java/util/AbstractMap$SimpleImmutableEntry" cJ44_init none 2 1 true (hM D) Q aw_no (c + mc) (sl + ms) 16 [(0, (2, x0)), (1, (2, x1))] [(2, x1), (2, x0)] (hM D11) := by
    by_cases w16_74 : hk D11 x1 = (74, 0)
    · rw [if_pos w16_74] at g16
      have hR := (h_J31_getValue_ok (G := G) hP11 g16)
      exact hw_callM (rest := [(2, x0)]) hR (fun hc hk9 => x_callF (C := "java/util/HashMap$Node") (as := []) (rest := [(2, x0)]) dJ44_init_16 hc q4525 q5088 (by decide +kernel) q4521 q4523 q486 q4524 q4522 q4493 w16_74 rfl rfl (show _ = some 0 from by decide +kernel) (by decide) (by decide) rfl (Nat.le_of_ble_eq_true rfl) hk9 aw_nox)
    rw [if_neg w16_74] at g16
    by_cases w16_75 : hk D11 x1 = (75, 0)
    · rw [if_pos w16_75] at g16
      have hR := (h_J31_getValue_ok (G := G) hP11 g16)
      exact hw_callM (rest := [(2, x0)]) hR (fun hc hk9 => x_callF (C := "java/util/HashMap$TreeNode") (as := []) (rest := [(2, x0)]) dJ44_init_16 hc q4525 q5088 (by decide +kernel) q4526 q4523 q486 q4524 q4527 q4499 w16_75 rfl rfl (show _ = some 0 from by decide +kernel) (by decide) (by decide) rfl (Nat.le_of_ble_eq_true rfl) hk9 aw_nox)
    rw [if_neg w16_75] at g16
    by_cases w16_76 : hk D11 x1 = (76, 0)
    · rw [if_pos w16_76] at g16
      have hR := (h_J35_getValue_ok (G := G) hP11 g16)
      exact hw_callM (rest := [(2, x0)]) hR (fun hc hk9 => x_callF (C := "java/util/TreeMap$Entry") (as := []) (rest := [(2, x0)]) dJ44_init_16 hc q4532 q5088 (by decide +kernel) q4528 q4530 q493 q4531 q4529 q4502 w16_76 rfl rfl (show _ = some 0 from by decide +kernel) (by decide) (by decide) rfl (Nat.le_of_ble_eq_true rfl) hk9 aw_nox)
    rw [if_neg w16_76] at g16
    by_cases w16_83 : hk D11 x1 = (83, 0)
    · rw [if_pos w16_83] at g16
      have hR := (h_J44_getValue_ok (G := G) hP11 g16)
      exact hw_callM (rest := [(2, x0)]) hR (fun hc hk9 => x_callF (C := "java/util/AbstractMap$SimpleImmutableEntry") (as := []) (rest := [(2, x0)]) dJ44_init_16 hc q4520 q5088 (by decide +kernel) q4516 q4518 q503 q4519 q4517 q4487 w16_83 rfl rfl (show _ = some 0 from by decide +kernel) (by decide) (by decide) rfl (Nat.le_of_ble_eq_true rfl) hk9 aw_nox)
    rw [if_neg w16_83] at g16
    exact absurd g16 (by intro h; cases h)
  obtain ⟨hP16, hE16, hS16⟩ := hS16
  refine hw_go ⟨hE16, hS16⟩ ?_
  replace h := ga_let_some h; obtain ⟨D21, eD21, h⟩ := h
  refine hw_set eD21 (Int.le_trans (by decide) (hkge_83 (h_kx hE16 (h_kx hE11 hc11_0 (by decide)) (by decide)))) (by decide) (fun k => x_putfF dJ44_init_21 fl_J44_13 rfl rfl (h_kx hE16 (h_kx hE11 hc11_0 (by decide)) (by decide)) (hkge_83 (h_kx hE16 (h_kx hE11 hc11_0 (by decide)) (by decide))) trivial k) ?_
  have hP21 : h_P D21 := hP16.set eD21 (hkge_83 (h_kx hE16 (h_kx hE11 hc11_0 (by decide)) (by decide))) (by decide) (hPn (h_kx hE16 (h_kx hE11 hc11_0 (by decide)) (by decide)) rfl)
  have hE21 : h_E D16 D21 := h_E_set eD21 (by decide)
  obtain ⟨rfl, rfl⟩ := ga_end h
  exact hw_ret hP21 (x_vret dJ44_init_24 rfl hq)
theorem h_J4_exportEntry_ok {G : aw_G} {D D' : ga_D} {r : Int} {x0 : Int} (hP : h_P D) (h : h_J4_exportEntry x0 D = some (r, D')) : aw_HR yJ4_exportEntry cJ4_exportEntry 1 (some (.object "java/util/Map$Entry")) 2 G [(2, x0)] D (some (2, r)) D' := by
  unfold h_J4_exportEntry at h
  refine hw_body (own := "java/util/TreeMap") (ini := false) (ls := [(0, (2, x0))]) rfl rfl (fun h => by cases h) (Nat.le_of_ble_eq_true rfl) rfl fun Q hq => ?_
  refine hw_1 (fun k => x_aload_n dJ4_exportEntry_0 rfl k) ?_
  by_cases c1 : x0 ≠ 0
  · rw [if_pos c1] at h
    refine hw_1 (fun k => x_ifnonnull (tgt := 8) dJ4_exportEntry_1 (by decide) (fun _ => k) (fun z => absurd c1 z)) ?_
    replace h := ga_let_some h; obtain ⟨z8, ez8, h⟩ := h
    replace h := ga_let_some h; obtain ⟨D8, eD8, h⟩ := h
    refine hy_new hP ez8 eD8 rfl rfl dJ4_exportEntry_8 rfl rfl q5079 q5080 q503 (fun hP8 hE8 hz8 hg8 => ?_)
    refine hw_1 (fun k => x_dup dJ4_exportEntry_11 rfl k) ?_
    refine hw_1 (fun k => x_aload_n dJ4_exportEntry_12 rfl k) ?_
    replace h := ga_bind_some h; obtain ⟨r13, D13, g13, h⟩ := h
    have hR13 := (h_J44_init_ok (G := G) (hk_pos1 hz8 (by decide)) hP8 g13)
    obtain ⟨hP13, hE13, -⟩ := id hR13
    refine hw_call (rest := [(2, z8)]) hR13 (fun hc hk9 => x_callI (as := [(2, x0)]) (rest := [(2, z8)]) dJ4_exportEntry_13 hc (lw_meth q5083) q503 q5081 q5082 hz8 rfl rfl (show _ ∧ _ ∧ _ = some 1 from by decide +kernel) (by decide) (by decide) rfl (Nat.le_of_ble_eq_true rfl) hk9 aw_nox) ?_
    obtain ⟨rfl, rfl⟩ := ga_end h
    exact hw_ret hP13 (x_aret dJ4_exportEntry_16 rfl (by first | exact Or.inl ⟨_, rfl⟩ | exact Or.inr ⟨_, rfl⟩) hq)
  · rw [if_neg c1] at h
    refine hw_1 (fun k => x_ifnonnull (tgt := 8) dJ4_exportEntry_1 (by decide) (fun z => absurd z c1) (fun _ => k)) ?_
    refine hw_1 (fun k => x_null dJ4_exportEntry_4 k) ?_
    refine hw_1 (fun k => x_goto (tgt := 16) dJ4_exportEntry_5 (by decide) k) ?_
    obtain ⟨rfl, rfl⟩ := ga_end h
    exact hw_ret hP (x_aret dJ4_exportEntry_16 rfl (by first | exact Or.inl ⟨_, rfl⟩ | exact Or.inr ⟨_, rfl⟩) hq)
theorem h_J4_floorEntry_ok {G : aw_G} {D D' : ga_D} {r : Int} {x0 x1 : Int} (hP : h_P D) (h : h_J4_floorEntry x0 x1 D = some (r, D')) : aw_HR yJ4_floorEntry cJ4_floorEntry 2 (some (.object "java/util/Map$Entry")) 5 G [(2, x0), (2, x1)] D (some (2, r)) D' := by
  unfold h_J4_floorEntry at h
  refine hw_body (own := "java/util/TreeMap") (ini := false) (ls := [(0, (2, x0)), (1, (2, x1))]) rfl rfl (fun h => by cases h) (Nat.le_of_ble_eq_true rfl) rfl fun Q hq => ?_
  refine hw_1 (fun k => x_aload_n dJ4_floorEntry_0 rfl k) ?_
  refine hw_1 (fun k => x_aload_n dJ4_floorEntry_1 rfl k) ?_
  replace h := ga_ck_some h; obtain ⟨hc2_0, h⟩ := h
  replace h := ga_bind_some h; obtain ⟨r2, D2, g2, h⟩ := h
  have hR2 := (h_J4_getFloorEntry_ok (G := G) hP g2)
  obtain ⟨hP2, hE2, -⟩ := id hR2
  refine hw_call (rest := []) hR2 (fun hc hk9 => x_callV (as := [(2, x1)]) (rest := []) dJ4_floorEntry_2 hc (lw_V q5072 q5073 q5074 q403 q5075) hc2_0 rfl rfl (show _ ∧ _ ∧ _ ∧ _ = some 1 from by decide +kernel) (by decide) (by decide) rfl (Nat.le_of_ble_eq_true rfl) hk9 aw_nox) ?_
  replace h := ga_bind_some h; obtain ⟨r5, D5, g5, h⟩ := h
  have hR5 := (h_J4_exportEntry_ok (G := G) hP2 g5)
  obtain ⟨hP5, hE5, -⟩ := id hR5
  refine hw_call (rest := []) hR5 (fun hc hk9 => x_callS (as := [(2, r2)]) (rest := []) dJ4_floorEntry_5 hc (lw_S q5076 q5077 q403 q5078) (show _ ∧ _ ∧ _ = some 1 from by decide +kernel) (by decide) (by decide) rfl (Nat.le_of_ble_eq_true rfl) hk9 aw_nox) ?_
  obtain ⟨rfl, rfl⟩ := ga_end h
  exact hw_ret hP5 (x_aret dJ4_floorEntry_8 rfl (by first | exact Or.inl ⟨_, rfl⟩ | exact Or.inr ⟨_, rfl⟩) hq)
theorem h_J40_remove_j65_ok {G : aw_G} {M0 : aw_M} {D' : ga_D} {Q : Option aw_V → aw_M → Prop} {r : Int} (hq : Q none (hM D')) {x0 : Int} {D : ga_D} (hP : h_P D) (h : h_J40_remove_j65 x0 D = some (r, D')) : aw_HW G "java/util/TreeMap$PrivateEntryIterator" cJ40_remove none 1 3 false M0 Q aw_no D' (hn D') (hsl D') 65 [(0, (2, x0))] [] D := by
  unfold h_J40_remove_j65 at h
  refine hw_1 (fun k => x_aload_n dJ40_remove_65 rfl k) ?_
  replace h := ga_ck_some h; obtain ⟨hc66_0, h⟩ := h
  refine hw_1 (fun k => x_getf (v := D x0 3) dJ40_remove_66 fl_J40_1 hc66_0 rfl k) ?_
  refine hw_1 (fun k => x_aload_n dJ40_remove_69 rfl k) ?_
  refine hw_1 (fun k => x_getf (v := D x0 1) dJ40_remove_70 fl_J40_22 hc66_0 rfl k) ?_
  replace h := ga_ck_some h; obtain ⟨hc73_1, h⟩ := h
  replace h := ga_bind_some h; obtain ⟨r73, D73, g73, h⟩ := h
  have hR73 := (h_J4_deleteEntry_ok (G := G) hP g73)
  obtain ⟨hP73, hE73, -⟩ := id hR73
  refine hw_call (rest := []) hR73 (fun hc hk9 => x_callVN (as := [(2, D x0 1)]) (rest := []) dJ40_remove_73 hc (lw_meth q4647) q4644 q4646 q403 qs44 hc73_1 rfl rfl (show _ ∧ _ ∧ _ = some 1 from by decide +kernel) (by decide) (by decide) rfl (Nat.le_of_ble_eq_true rfl) hk9 aw_nox) ?_
  refine hw_1 (fun k => x_aload_n dJ40_remove_76 rfl k) ?_
  refine hw_1 (fun k => x_aload_n dJ40_remove_77 rfl k) ?_
  refine hw_1 (fun k => x_getf (v := D73 x0 3) dJ40_remove_78 fl_J40_1 (h_kx hE73 hc66_0 (by decide)) rfl k) ?_
  replace h := ga_ck_some h; obtain ⟨hc81_2, h⟩ := h
  refine hw_1 (fun k => x_getfN (v := D73 (D73 x0 3) 5) dJ40_remove_81 fl_J40_13 hc81_2 rfl k) ?_
  replace h := ga_let_some h; obtain ⟨D84, eD84, h⟩ := h
  refine hw_set eD84 (Int.le_trans (by decide) (hkge_80 (h_kx hE73 hc66_0 (by decide)))) (by decide) (fun k => x_putf dJ40_remove_84 fl_J40_19 rfl (h_kx hE73 hc66_0 (by decide)) (hkge_80 (h_kx hE73 hc66_0 (by decide))) trivial k) ?_
  have hP84 : h_P D84 := hP73.set eD84 (hkge_80 (h_kx hE73 hc66_0 (by decide))) (by decide) (hPn (h_kx hE73 hc66_0 (by decide)) rfl)
  have hE84 : h_E D73 D84 := h_E_set eD84 (by decide)
  refine hw_1 (fun k => x_aload_n dJ40_remove_87 rfl k) ?_
  refine hw_1 (fun k => x_null dJ40_remove_88 k) ?_
  replace h := ga_let_some h; obtain ⟨D89, eD89, h⟩ := h
  refine hw_set eD89 (Int.le_trans (by decide) (hkge_80 (h_kx hE84 (h_kx hE73 hc66_0 (by decide)) (by decide)))) (by decide) (fun k => x_putf dJ40_remove_89 fl_J40_22 rfl (h_kx hE84 (h_kx hE73 hc66_0 (by decide)) (by decide)) (hkge_80 (h_kx hE84 (h_kx hE73 hc66_0 (by decide)) (by decide))) trivial k) ?_
  have hP89 : h_P D89 := hP84.set eD89 (hkge_80 (h_kx hE84 (h_kx hE73 hc66_0 (by decide)) (by decide))) (by decide) (hPn (h_kx hE84 (h_kx hE73 hc66_0 (by decide)) (by decide)) rfl)
  have hE89 : h_E D84 D89 := h_E_set eD89 (by decide)
  obtain ⟨rfl, rfl⟩ := ga_end h
  exact hw_ret hP89 (x_vret dJ40_remove_92 rfl hq)
theorem h_J40_remove_ok {G : aw_G} {D D' : ga_D} {r : Int} {x0 : Int} (hP : h_P D) (h : h_J40_remove x0 D = some (r, D')) : aw_HR yJ40_remove cJ40_remove 1 none 3 G [(2, x0)] D none D' := by
  unfold h_J40_remove at h
  refine hw_body (own := "java/util/TreeMap$PrivateEntryIterator") (ini := false) (ls := [(0, (2, x0))]) rfl rfl (fun h => by cases h) (Nat.le_of_ble_eq_true rfl) rfl fun Q hq => ?_
  refine hw_1 (fun k => x_aload_n dJ40_remove_0 rfl k) ?_
  replace h := ga_ck_some h; obtain ⟨hc1_0, h⟩ := h
  refine hw_1 (fun k => x_getf (v := D x0 1) dJ40_remove_1 fl_J40_22 hc1_0 rfl k) ?_
  by_cases c4 : D x0 1 ≠ 0
  · rw [if_pos c4] at h
    refine hw_1 (fun k => x_ifnonnull (tgt := 15) dJ40_remove_4 (by decide) (fun _ => k) (fun z => absurd c4 z)) ?_
    refine hw_1 (fun k => x_aload_n dJ40_remove_15 rfl k) ?_
    refine hw_1 (fun k => x_getf (v := D x0 3) dJ40_remove_16 fl_J40_1 hc1_0 rfl k) ?_
    replace h := ga_ck_some h; obtain ⟨hc19_0, h⟩ := h
    refine hw_1 (fun k => x_getfN (v := D (D x0 3) 5) dJ40_remove_19 fl_J40_13 hc19_0 rfl k) ?_
    refine hw_1 (fun k => x_aload_n dJ40_remove_22 rfl k) ?_
    refine hw_1 (fun k => x_getf (v := D x0 2) dJ40_remove_23 fl_J40_19 hc1_0 rfl k) ?_
    by_cases c26 : D (D x0 3) 5 = D x0 2
    · rw [if_pos c26] at h
      refine hw_1 (fun k => x_icmp_eq (tgt := 37) dJ40_remove_26 (by decide) (fun _ => k) (fun z => absurd c26 z)) ?_
      refine hw_1 (fun k => x_aload_n dJ40_remove_37 rfl k) ?_
      refine hw_1 (fun k => x_getf (v := D x0 1) dJ40_remove_38 fl_J40_22 hc1_0 rfl k) ?_
      replace h := ga_ck_some h; obtain ⟨hc41_0, h⟩ := h
      refine hw_1 (fun k => x_getf (v := D (D x0 1) 2) dJ40_remove_41 fl_J40_45 hc41_0 rfl k) ?_
      by_cases c44 : D (D x0 1) 2 = 0
      · rw [if_pos c44] at h
        refine hw_1 (fun k => x_ifnull (tgt := 65) dJ40_remove_44 (by decide) (fun _ => k) (fun z => absurd c44 z)) ?_
        refine h_J40_remove_j65_ok hq hP h
      · rw [if_neg c44] at h
        refine hw_1 (fun k => x_ifnull (tgt := 65) dJ40_remove_44 (by decide) (fun z => absurd z c44) (fun _ => k)) ?_
        refine hw_1 (fun k => x_aload_n dJ40_remove_47 rfl k) ?_
        refine hw_1 (fun k => x_getf (v := D x0 1) dJ40_remove_48 fl_J40_22 hc1_0 rfl k) ?_
        refine hw_1 (fun k => x_getf (v := D (D x0 1) 3) dJ40_remove_51 fl_J40_50 hc41_0 rfl k) ?_
        by_cases c54 : D (D x0 1) 3 = 0
        · rw [if_pos c54] at h
          refine hw_1 (fun k => x_ifnull (tgt := 65) dJ40_remove_54 (by decide) (fun _ => k) (fun z => absurd c54 z)) ?_
          refine h_J40_remove_j65_ok hq hP h
        · rw [if_neg c54] at h
          refine hw_1 (fun k => x_ifnull (tgt := 65) dJ40_remove_54 (by decide) (fun z => absurd z c54) (fun _ => k)) ?_
          refine hw_1 (fun k => x_aload_n dJ40_remove_57 rfl k) ?_
          refine hw_1 (fun k => x_aload_n dJ40_remove_58 rfl k) ?_
          refine hw_1 (fun k => x_getf (v := D x0 1) dJ40_remove_59 fl_J40_22 hc1_0 rfl k) ?_
          replace h := ga_let_some h; obtain ⟨D62, eD62, h⟩ := h
          refine hw_set eD62 (Int.le_trans (by decide) (hkge_80 hc1_0)) (by decide) (fun k => x_putf dJ40_remove_62 fl_J40_26 rfl hc1_0 (hkge_80 hc1_0) trivial k) ?_
          have hP62 : h_P D62 := hP.set eD62 (hkge_80 hc1_0) (by decide) (hPn hc1_0 rfl)
          have hE62 : h_E D D62 := h_E_set eD62 (by decide)
          refine h_J40_remove_j65_ok hq hP62 h
    · rw [if_neg c26] at h
      refine hw_1 (fun k => x_icmp_eq (tgt := 37) dJ40_remove_26 (by decide) (fun z => absurd z c26) (fun _ => k)) ?_
      exact absurd h (by intro h; cases h)
  · rw [if_neg c4] at h
    refine hw_1 (fun k => x_ifnonnull (tgt := 15) dJ40_remove_4 (by decide) (fun z => absurd z c4) (fun _ => k)) ?_
    exact absurd h (by intro h; cases h)
theorem h_J9_init_ok {G : aw_G} {D D' : ga_D} {r : Int} {x0 : Int} (hx0 : 0 < x0) (hP : h_P D) (h : h_J9_init x0 D = some (r, D')) : aw_HR yJ9_init cJ9_init 1 none 3 G [(2, x0)] D none D' := by
  unfold h_J9_init at h
  refine hw_body (own := "java/util/HashSet") (ini := true) (ls := [(0, (2, x0))]) rfl rfl (fun _ => rfl) (Nat.le_of_ble_eq_true rfl) rfl fun Q hq => ?_
  refine hw_1 (fun k => x_aload_n dJ9_init_0 rfl k) ?_
  replace h := ga_bind_some h; obtain ⟨r1, D1, g1, h⟩ := h
  have hR1 := (h_J8_init_ok (G := G) hx0 hP g1)
  obtain ⟨hP1, hE1, -⟩ := id hR1
  refine hw_call (rest := []) hR1 (fun hc hk9 => x_callI0 (as := []) (rest := []) dJ9_init_1 hc (lw_meth q1822) q436 q1820 q1821 hx0 rfl (show _ ∧ _ ∧ _ = some 0 from by decide +kernel) (by decide) (by decide) rfl (Nat.le_of_ble_eq_true rfl) hk9 aw_nox) ?_
  refine hw_1 (fun k => x_aload_n dJ9_init_4 rfl k) ?_
  replace h := ga_let_some h; obtain ⟨z5, ez5, h⟩ := h
  replace h := ga_let_some h; obtain ⟨D5, eD5, h⟩ := h
  refine hy_new hP1 ez5 eD5 rfl rfl dJ9_init_5 rfl rfl q1824 q1825 q438 (fun hP5 hE5 hz5 hg5 => ?_)
  refine hw_1 (fun k => x_dup dJ9_init_8 rfl k) ?_
  replace h := ga_bind_some h; obtain ⟨r9, D9, g9, h⟩ := h
  have hR9 := (h_J10_init_ok (G := G) (hk_pos1 hz5 (by decide)) hP5 g9)
  obtain ⟨hP9, hE9, -⟩ := id hR9
  refine hw_call (rest := [(2, z5), (2, x0)]) hR9 (fun hc hk9 => x_callI (as := []) (rest := [(2, z5), (2, x0)]) dJ9_init_9 hc (lw_meth q1828) q438 q1826 q1827 hz5 rfl rfl (show _ ∧ _ ∧ _ = some 0 from by decide +kernel) (by decide) (by decide) rfl (Nat.le_of_ble_eq_true rfl) hk9 aw_nox) ?_
  replace h := ga_ck_some h; obtain ⟨hc12_0, h⟩ := h
  replace h := ga_ck_some h; obtain ⟨hc12_1, h⟩ := h
  replace h := ga_let_some h; obtain ⟨D12, eD12, h⟩ := h
  refine hw_set eD12 (Int.le_trans (by decide) (hkge_63 hc12_0)) (by decide) (fun k => x_putf dJ9_init_12 fl_J9_10 rfl hc12_0 (hkge_63 hc12_0) trivial k) ?_
  have hP12 : h_P D12 := hP9.set eD12 (hkge_63 hc12_0) (by decide) (hPo hc12_1)
  have hE12 : h_E D9 D12 := h_E_set eD12 (by decide)
  obtain ⟨rfl, rfl⟩ := ga_end h
  exact hw_ret hP12 (x_vret dJ9_init_15 rfl hq)
