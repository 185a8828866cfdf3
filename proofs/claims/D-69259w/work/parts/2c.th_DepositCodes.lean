theorem fl_X34_10 : aw_Fl "WasteHouse$DepositCodes" 10 31 0 2 := ⟨aw_q31, "WasteHouse$DepositCodes", rfl, by decide, q1858, Or.inl rfl, rfl⟩
theorem fl_X34_19 : aw_Fl "WasteHouse$DepositCodes" 19 31 1 2 := ⟨aw_q31, "WasteHouse$DepositCodes", rfl, by decide, q1859, Or.inl rfl, rfl⟩
theorem fl_X34_25 : aw_Fl "WasteHouse$DepositCodes" 25 31 2 2 := ⟨aw_q31, "WasteHouse$DepositCodes", rfl, by decide, q1860, Or.inl rfl, rfl⟩
theorem fl_X34_29 : aw_Fl "WasteHouse$DepositCodes" 29 31 3 2 := ⟨aw_q31, "WasteHouse$DepositCodes", rfl, by decide, q1861, Or.inl rfl, rfl⟩
theorem fl_X34_35 : aw_Fl "WasteHouse$DepositCodes" 35 31 4 2 := ⟨aw_q31, "WasteHouse$DepositCodes", rfl, by decide, q1862, Or.inl rfl, rfl⟩
theorem fl_X34_42 : aw_Fl "WasteHouse$DepositCodes" 42 31 5 2 := ⟨aw_q31, "WasteHouse$DepositCodes", rfl, by decide, q1863, Or.inl rfl, rfl⟩
theorem fl_X34_46 : aw_Fl "WasteHouse$DepositCodes" 46 31 6 2 := ⟨aw_q31, "WasteHouse$DepositCodes", rfl, by decide, q1864, Or.inl rfl, rfl⟩
theorem fl_X34_49 : aw_Fl "WasteHouse$DepositCodes" 49 31 7 2 := ⟨aw_q31, "WasteHouse$DepositCodes", rfl, by decide, q1865, Or.inl rfl, rfl⟩
theorem fl_X34_53 : aw_Fl "WasteHouse$DepositCodes" 53 31 8 2 := ⟨aw_q31, "WasteHouse$DepositCodes", rfl, by decide, q1866, Or.inl rfl, rfl⟩
theorem fl_X34_59 : aw_Fl "WasteHouse$DepositCodes" 59 31 9 2 := ⟨aw_q31, "WasteHouse$DepositCodes", rfl, by decide, q1867, Or.inl rfl, rfl⟩
theorem fl_X34_63 : aw_Fl "WasteHouse$DepositCodes" 63 31 10 2 := ⟨aw_q31, "WasteHouse$DepositCodes", rfl, by decide, q1868, Or.inl rfl, rfl⟩
theorem fl_X34_116 : aw_Fl "WasteHouse$DepositCodes" 116 54 2 0 := ⟨aw_q54, "WasteHouse$DepositCodes$Machine", rfl, by decide, q4129, Or.inl rfl, rfl⟩
theorem fl_X34_120 : aw_Fl "WasteHouse$DepositCodes" 120 54 3 0 := ⟨aw_q54, "WasteHouse$DepositCodes$Machine", rfl, by decide, q4131, Or.inl rfl, rfl⟩
theorem fl_X34_126 : aw_Fl "WasteHouse$DepositCodes" 126 54 1 2 := ⟨aw_q54, "WasteHouse$DepositCodes$Machine", rfl, by decide, q4128, Or.inl rfl, rfl⟩
theorem fl_X34_129 : aw_Fl "WasteHouse$DepositCodes" 129 55 0 2 := ⟨aw_q55, "WasteHouse$DepositCodes$PaidSet", rfl, by decide, q3550, Or.inl rfl, rfl⟩
theorem fl_X34_145 : aw_Fl "WasteHouse$DepositCodes" 145 31 11 0 := ⟨aw_q31, "WasteHouse$DepositCodes", rfl, by decide, q1869, Or.inl rfl, rfl⟩
theorem fl_X34_153 : aw_Fl "WasteHouse$DepositCodes" 153 31 12 0 := ⟨aw_q31, "WasteHouse$DepositCodes", rfl, by decide, q1870, Or.inl rfl, rfl⟩
theorem fl_X34_181 : aw_Fl "WasteHouse$DepositCodes" 181 54 0 0 := ⟨aw_q54, "WasteHouse$DepositCodes$Machine", rfl, by decide, q4126, Or.inl rfl, rfl⟩
theorem fl_X34_184 : aw_Fl "WasteHouse$DepositCodes" 184 54 4 2 := ⟨aw_q54, "WasteHouse$DepositCodes$Machine", rfl, by decide, q4133, Or.inl rfl, rfl⟩
theorem fl_X34_188 : aw_Fl "WasteHouse$DepositCodes" 188 54 5 0 := ⟨aw_q54, "WasteHouse$DepositCodes$Machine", rfl, by decide, q4134, Or.inl rfl, rfl⟩
theorem fl_X34_242 : aw_Fl "WasteHouse$DepositCodes" 242 55 1 2 := ⟨aw_q55, "WasteHouse$DepositCodes$PaidSet", rfl, by decide, q3553, Or.inl rfl, rfl⟩
theorem fl_X35_9 : aw_Fl "WasteHouse$DepositCodes$Bars" 9 32 0 2 := ⟨aw_q32, "WasteHouse$DepositCodes$Bars", rfl, by decide, q1773, Or.inl rfl, rfl⟩
theorem fl_X35_15 : aw_Fl "WasteHouse$DepositCodes$Bars" 15 32 1 2 := ⟨aw_q32, "WasteHouse$DepositCodes$Bars", rfl, by decide, q1774, Or.inl rfl, rfl⟩
theorem fl_X35_19 : aw_Fl "WasteHouse$DepositCodes$Bars" 19 32 2 2 := ⟨aw_q32, "WasteHouse$DepositCodes$Bars", rfl, by decide, q1775, Or.inl rfl, rfl⟩
theorem fl_X35_22 : aw_Fl "WasteHouse$DepositCodes$Bars" 22 32 3 0 := ⟨aw_q32, "WasteHouse$DepositCodes$Bars", rfl, by decide, q1776, Or.inl rfl, rfl⟩
theorem fl_X35_26 : aw_Fl "WasteHouse$DepositCodes$Bars" 26 32 4 0 := ⟨aw_q32, "WasteHouse$DepositCodes$Bars", rfl, by decide, q1777, Or.inl rfl, rfl⟩
theorem fl_X59_12 : aw_Fl "WasteHouse$DepositCodes$Machine" 12 54 1 2 := ⟨aw_q54, "WasteHouse$DepositCodes$Machine", rfl, by decide, q4127, Or.inl rfl, rfl⟩
theorem fl_X59_18 : aw_Fl "WasteHouse$DepositCodes$Machine" 18 54 3 0 := ⟨aw_q54, "WasteHouse$DepositCodes$Machine", rfl, by decide, q4130, Or.inl rfl, rfl⟩
theorem fl_X59_22 : aw_Fl "WasteHouse$DepositCodes$Machine" 22 54 4 2 := ⟨aw_q54, "WasteHouse$DepositCodes$Machine", rfl, by decide, q4132, Or.inl rfl, rfl⟩
theorem fl_X59_26 : aw_Fl "WasteHouse$DepositCodes$Machine" 26 54 0 0 := ⟨aw_q54, "WasteHouse$DepositCodes$Machine", rfl, by decide, q4125, Or.inl rfl, rfl⟩
theorem fl_X59_30 : aw_Fl "WasteHouse$DepositCodes$Machine" 30 55 1 2 := ⟨aw_q55, "WasteHouse$DepositCodes$PaidSet", rfl, by decide, q3552, Or.inl rfl, rfl⟩
theorem fl_X60_10 : aw_Fl "WasteHouse$DepositCodes$PaidSet" 10 55 0 2 := ⟨aw_q55, "WasteHouse$DepositCodes$PaidSet", rfl, by decide, q3549, Or.inl rfl, rfl⟩
theorem fl_X60_19 : aw_Fl "WasteHouse$DepositCodes$PaidSet" 19 55 1 2 := ⟨aw_q55, "WasteHouse$DepositCodes$PaidSet", rfl, by decide, q3551, Or.inl rfl, rfl⟩
theorem fl_X61_7 : aw_Fl "WasteHouse$DepositCodes$Span" 7 56 0 0 := ⟨aw_q56, "WasteHouse$DepositCodes$Span", rfl, by decide, q4159, Or.inl rfl, rfl⟩
theorem fl_X61_13 : aw_Fl "WasteHouse$DepositCodes$Span" 13 56 1 0 := ⟨aw_q56, "WasteHouse$DepositCodes$Span", rfl, by decide, q4160, Or.inl rfl, rfl⟩
theorem fl_X62_9 : aw_Fl "WasteHouse$DepositCodes$Twice" 9 57 0 1 := ⟨aw_q57, "WasteHouse$DepositCodes$Twice", rfl, by decide, q4537, Or.inl rfl, rfl⟩
theorem fl_X62_15 : aw_Fl "WasteHouse$DepositCodes$Twice" 15 57 1 0 := ⟨aw_q57, "WasteHouse$DepositCodes$Twice", rfl, by decide, q4538, Or.inl rfl, rfl⟩
theorem fl_X62_19 : aw_Fl "WasteHouse$DepositCodes$Twice" 19 57 2 0 := ⟨aw_q57, "WasteHouse$DepositCodes$Twice", rfl, by decide, q4539, Or.inl rfl, rfl⟩
theorem h_X58_is_ok {G : aw_G} {D D' : ga_D} {r : Int} {x0 : Int} (hP : h_P D) (h : h_X58_is x0 D = some (r, D')) : aw_HR yX58_is cX58_is 2 (some (.boolean)) 0 G [(1, x0)] D (some (0, r)) D' := by
  unfold h_X58_is at h
  refine hw_body (own := "WasteHouse$DepositCodes$Numbers") (ini := false) (ls := [(0, (1, x0))]) rfl rfl (fun h => by cases h) (Nat.le_of_ble_eq_true rfl) rfl fun Q hq => ?_
  refine hw_1 (fun k => x_lload_n dX58_is_0 rfl k) ?_
  refine hw_1 (fun k => x_lconst (v := 0) dX58_is_1 rfl k) ?_
  refine hw_1 (fun k => x_lcmp dX58_is_2 rfl k) ?_
  by_cases c3 : x0 < 0
  · rw [if_pos c3] at h
    refine hw_1 (fun k => x_if_lt (tgt := 18) dX58_is_3 (by decide) (fun _ => k) (fun z => absurd (cmi_lt.mpr c3) z)) ?_
    refine hw_1 (fun k => x_iconst dX58_is_18 (by decide) k) ?_
    obtain ⟨rfl, rfl⟩ := ga_end h
    exact hw_ret hP (x_iret dX58_is_19 rfl rfl (show (0 : Int) ≤ 0 ∧ (0 : Int) < 2 from by decide) hq)
  · rw [if_neg c3] at h
    refine hw_1 (fun k => x_if_lt (tgt := 18) dX58_is_3 (by decide) (fun z => absurd (cmi_lt.mp z) c3) (fun _ => k)) ?_
    refine hw_1 (fun k => x_lload_n dX58_is_6 rfl k) ?_
    refine hw_1 (fun k => x_ldc2 (z := 999999999999999999) dX58_is_7 q3512 (by decide) k) ?_
    refine hw_1 (fun k => x_lcmp dX58_is_10 rfl k) ?_
    by_cases c11 : 999999999999999999 < x0
    · rw [if_pos c11] at h
      refine hw_1 (fun k => x_if_gt (tgt := 18) dX58_is_11 (by decide) (fun _ => k) (fun z => absurd (cmi_gt.mpr c11) z)) ?_
      refine hw_1 (fun k => x_iconst dX58_is_18 (by decide) k) ?_
      obtain ⟨rfl, rfl⟩ := ga_end h
      exact hw_ret hP (x_iret dX58_is_19 rfl rfl (show (0 : Int) ≤ 0 ∧ (0 : Int) < 2 from by decide) hq)
    · rw [if_neg c11] at h
      refine hw_1 (fun k => x_if_gt (tgt := 18) dX58_is_11 (by decide) (fun z => absurd (cmi_gt.mp z) c11) (fun _ => k)) ?_
      refine hw_1 (fun k => x_iconst dX58_is_14 (by decide) k) ?_
      refine hw_1 (fun k => x_goto (tgt := 19) dX58_is_15 (by decide) k) ?_
      obtain ⟨rfl, rfl⟩ := ga_end h
      exact hw_ret hP (x_iret dX58_is_19 rfl rfl (show (0 : Int) ≤ 1 ∧ (1 : Int) < 2 from by decide) hq)
theorem h_X34_isMachine_ok {G : aw_G} {D D' : ga_D} {r : Int} {x1 : Int} (hP : h_P D) (h : h_X34_isMachine x1 D = some (r, D')) : aw_HR yX34_isMachine cX34_isMachine 2 (some (.boolean)) 1 G [(2, 5028), (0, x1)] D (some (0, r)) D' := by
  unfold h_X34_isMachine at h
  refine hw_body (own := "WasteHouse$DepositCodes") (ini := false) (ls := [(0, (2, 5028)), (1, (0, x1))]) rfl rfl (fun h => by cases h) (Nat.le_of_ble_eq_true rfl) rfl fun Q hq => ?_
  refine hw_1 (fun k => x_iload_n dX34_isMachine_0 rfl k) ?_
  by_cases c1 : x1 < 0
  · rw [if_pos c1] at h
    refine hw_1 (fun k => x_if_lt (tgt := 19) dX34_isMachine_1 (by decide) (fun _ => k) (fun z => absurd c1 z)) ?_
    refine hw_1 (fun k => x_iconst dX34_isMachine_19 (by decide) k) ?_
    obtain ⟨rfl, rfl⟩ := ga_end h
    exact hw_ret hP (x_iret dX34_isMachine_20 rfl rfl (show (0 : Int) ≤ 0 ∧ (0 : Int) < 2 from by decide) hq)
  · rw [if_neg c1] at h
    refine hw_1 (fun k => x_if_lt (tgt := 19) dX34_isMachine_1 (by decide) (fun z => absurd z c1) (fun _ => k)) ?_
    refine hw_1 (fun k => x_iload_n dX34_isMachine_4 rfl k) ?_
    refine hw_1 (fun k => x_aload_n dX34_isMachine_5 rfl k) ?_
    refine hw_1 (fun k => x_getf (v := 5033) dX34_isMachine_6 fl_X34_19 (hkS (D := D) (show ga_K 5028 = (31, 0) from by decide +kernel) (by decide)) (hP.1 5028 1 5033 (by decide +kernel)) k) ?_
    replace h := ga_bind_some h; obtain ⟨r9, D9, g9, h⟩ := h
    have hR9 := (h_J2_size_ok (G := G) hP g9)
    obtain ⟨hP9, hE9, -⟩ := id hR9
    refine hw_call (rest := [(0, x1)]) hR9 (fun hc hk9 => x_callV (as := []) (rest := [(0, x1)]) dX34_isMachine_9 hc (lw_V q3529 q3530 q3531 q401 q3532) (hkS (D := D) (show ga_K 5033 = (60, 0) from by decide +kernel) (by decide)) rfl rfl (show _ ∧ _ ∧ _ ∧ _ = some 0 from by decide +kernel) (by decide) (by decide) rfl (Nat.le_of_ble_eq_true rfl) hk9 aw_nox) ?_
    by_cases c12 : r9 ≤ x1
    · rw [if_pos c12] at h
      refine hw_1 (fun k => x_icmp_ge (tgt := 19) dX34_isMachine_12 (by decide) (fun _ => k) (fun z => absurd c12 z)) ?_
      refine hw_1 (fun k => x_iconst dX34_isMachine_19 (by decide) k) ?_
      obtain ⟨rfl, rfl⟩ := ga_end h
      exact hw_ret hP9 (x_iret dX34_isMachine_20 rfl rfl (show (0 : Int) ≤ 0 ∧ (0 : Int) < 2 from by decide) hq)
    · rw [if_neg c12] at h
      refine hw_1 (fun k => x_icmp_ge (tgt := 19) dX34_isMachine_12 (by decide) (fun z => absurd z c12) (fun _ => k)) ?_
      refine hw_1 (fun k => x_iconst dX34_isMachine_15 (by decide) k) ?_
      refine hw_1 (fun k => x_goto (tgt := 20) dX34_isMachine_16 (by decide) k) ?_
      obtain ⟨rfl, rfl⟩ := ga_end h
      exact hw_ret hP9 (x_iret dX34_isMachine_20 rfl rfl (show (0 : Int) ≤ 1 ∧ (1 : Int) < 2 from by decide) hq)
theorem h_X61_has_ok {G : aw_G} {D D' : ga_D} {r : Int} {x0 x1 : Int} (hP : h_P D) (h : h_X61_has x0 x1 D = some (r, D')) : aw_HR yX61_has cX61_has 2 (some (.boolean)) 0 G [(2, x0), (0, x1)] D (some (0, r)) D' := by
  unfold h_X61_has at h
  refine hw_body (own := "WasteHouse$DepositCodes$Span") (ini := false) (ls := [(0, (2, x0)), (1, (0, x1))]) rfl rfl (fun h => by cases h) (Nat.le_of_ble_eq_true rfl) rfl fun Q hq => ?_
  refine hw_1 (fun k => x_iload_n dX61_has_0 rfl k) ?_
  refine hw_1 (fun k => x_aload_n dX61_has_1 rfl k) ?_
  replace h := ga_ck_some h; obtain ⟨hc2_0, h⟩ := h
  refine hw_1 (fun k => x_getf (v := D x0 0) dX61_has_2 fl_X61_7 hc2_0 rfl k) ?_
  by_cases c5 : x1 < D x0 0
  · rw [if_pos c5] at h
    refine hw_1 (fun k => x_icmp_lt (tgt := 20) dX61_has_5 (by decide) (fun _ => k) (fun z => absurd c5 z)) ?_
    refine hw_1 (fun k => x_iconst dX61_has_20 (by decide) k) ?_
    obtain ⟨rfl, rfl⟩ := ga_end h
    exact hw_ret hP (x_iret dX61_has_21 rfl rfl (show (0 : Int) ≤ 0 ∧ (0 : Int) < 2 from by decide) hq)
  · rw [if_neg c5] at h
    refine hw_1 (fun k => x_icmp_lt (tgt := 20) dX61_has_5 (by decide) (fun z => absurd z c5) (fun _ => k)) ?_
    refine hw_1 (fun k => x_iload_n dX61_has_8 rfl k) ?_
    refine hw_1 (fun k => x_aload_n dX61_has_9 rfl k) ?_
    refine hw_1 (fun k => x_getf (v := D x0 1) dX61_has_10 fl_X61_13 hc2_0 rfl k) ?_
    by_cases c13 : D x0 1 < x1
    · rw [if_pos c13] at h
      refine hw_1 (fun k => x_icmp_gt (tgt := 20) dX61_has_13 (by decide) (fun _ => k) (fun z => absurd c13 z)) ?_
      refine hw_1 (fun k => x_iconst dX61_has_20 (by decide) k) ?_
      obtain ⟨rfl, rfl⟩ := ga_end h
      exact hw_ret hP (x_iret dX61_has_21 rfl rfl (show (0 : Int) ≤ 0 ∧ (0 : Int) < 2 from by decide) hq)
    · rw [if_neg c13] at h
      refine hw_1 (fun k => x_icmp_gt (tgt := 20) dX61_has_13 (by decide) (fun z => absurd z c13) (fun _ => k)) ?_
      refine hw_1 (fun k => x_iconst dX61_has_16 (by decide) k) ?_
      refine hw_1 (fun k => x_goto (tgt := 21) dX61_has_17 (by decide) k) ?_
      obtain ⟨rfl, rfl⟩ := ga_end h
      exact hw_ret hP (x_iret dX61_has_21 rfl rfl (show (0 : Int) ≤ 1 ∧ (1 : Int) < 2 from by decide) hq)
theorem h_X58_check_j70_ok {G : aw_G} {M0 : aw_M} {D' : ga_D} {Q : Option aw_V → aw_M → Prop} {r : Int} (hq : Q (some (0, r)) (hM D')) {k8 : Int → Int → Int → Int → ga_D → ga_S} (hk8 : ∀ (x0 x3 x4 x5 : Int) (D : ga_D), h_P D → k8 x0 x3 x4 x5 D = some (r, D') → aw_HW G "WasteHouse$DepositCodes$Numbers" cX58_check (some (.int)) 9 0 false M0 Q aw_no D' (hn D') (hsl D') 8 [(0, (0, x0)), (3, (0, x3)), (4, (0, x4)), (5, (1, x5))] [] D) {x0 x4 x5 s0 s1 : Int} {D : ga_D} (hP : h_P D) (h : h_X58_check_j70 x0 x4 x5 s0 s1 D k8 = some (r, D')) : aw_HW G "WasteHouse$DepositCodes$Numbers" cX58_check (some (.int)) 9 0 false M0 Q aw_no D' (hn D') (hsl D') 70 [(0, (0, x0)), (4, (0, x4)), (5, (1, x5))] [(0, s0), (0, s1)] D := by
  unfold h_X58_check_j70 at h
  refine hw_1 (fun k => x_iadd dX58_check_70 rfl k) ?_
  replace h := ga_let_some h; obtain ⟨v71, ev71, h⟩ := h
  refine hw_nm ev71 ?_
  refine hw_1 (fun k => x_istore_n (ls' := [(3, (0, v71)), (0, (0, x0)), (4, (0, x4)), (5, (1, x5))]) dX58_check_71 (by decide) rfl k) ?_
  refine hw_1 (fun k => x_iload dX58_check_72 rfl k) ?_
  by_cases c74 : x4 ≠ 0
  · rw [if_pos c74] at h
    refine hw_1 (fun k => x_if_ne (tgt := 81) dX58_check_74 (by decide) (fun _ => k) (fun z => absurd c74 z)) ?_
    refine hw_1 (fun k => x_iconst dX58_check_81 (by decide) k) ?_
    refine hw_1 (fun k => x_istore (ls' := [(4, (0, 0)), (3, (0, v71)), (0, (0, x0)), (5, (1, x5))]) dX58_check_82 (by decide) rfl k) ?_
    refine hw_1 (fun k => x_lload dX58_check_84 rfl k) ?_
    refine hw_1 (fun k => x_ldc2 (z := 10) dX58_check_86 q3516 (by decide) k) ?_
    refine hw_1 (fun k => x_ldiv dX58_check_89 (by decide) rfl k) ?_
    replace h := ga_let_some h; obtain ⟨v90, ev90, h⟩ := h
    refine hw_nm ev90 ?_
    refine hw_1 (fun k => x_lstore (ls' := [(5, (1, v90)), (4, (0, 0)), (3, (0, v71)), (0, (0, x0))]) dX58_check_90 (by decide) rfl k) ?_
    refine hw_1 (fun k => x_goto (tgt := 8) dX58_check_92 (by decide) k) ?_
    refine hw_locs [3, 2, 1, 0] (ls' := [(0, (0, x0)), (3, (0, v71)), (4, (0, 0)), (5, (1, v90))]) rfl ?_
    exact hk8 _ _ _ _ _ hP h
  · rw [if_neg c74] at h
    refine hw_1 (fun k => x_if_ne (tgt := 81) dX58_check_74 (by decide) (fun z => absurd z c74) (fun _ => k)) ?_
    refine hw_1 (fun k => x_iconst dX58_check_77 (by decide) k) ?_
    refine hw_1 (fun k => x_goto (tgt := 82) dX58_check_78 (by decide) k) ?_
    refine hw_1 (fun k => x_istore (ls' := [(4, (0, 1)), (3, (0, v71)), (0, (0, x0)), (5, (1, x5))]) dX58_check_82 (by decide) rfl k) ?_
    refine hw_1 (fun k => x_lload dX58_check_84 rfl k) ?_
    refine hw_1 (fun k => x_ldc2 (z := 10) dX58_check_86 q3516 (by decide) k) ?_
    refine hw_1 (fun k => x_ldiv dX58_check_89 (by decide) rfl k) ?_
    replace h := ga_let_some h; obtain ⟨v90, ev90, h⟩ := h
    refine hw_nm ev90 ?_
    refine hw_1 (fun k => x_lstore (ls' := [(5, (1, v90)), (4, (0, 1)), (3, (0, v71)), (0, (0, x0))]) dX58_check_90 (by decide) rfl k) ?_
    refine hw_1 (fun k => x_goto (tgt := 8) dX58_check_92 (by decide) k) ?_
    refine hw_locs [3, 2, 1, 0] (ls' := [(0, (0, x0)), (3, (0, v71)), (4, (0, 1)), (5, (1, v90))]) rfl ?_
    exact hk8 _ _ _ _ _ hP h
theorem h_X58_check_j55_ok {G : aw_G} {M0 : aw_M} {D' : ga_D} {Q : Option aw_V → aw_M → Prop} {r : Int} (hq : Q (some (0, r)) (hM D')) {k8 : Int → Int → Int → Int → ga_D → ga_S} (hk8 : ∀ (x0 x3 x4 x5 : Int) (D : ga_D), h_P D → k8 x0 x3 x4 x5 D = some (r, D') → aw_HW G "WasteHouse$DepositCodes$Numbers" cX58_check (some (.int)) 9 0 false M0 Q aw_no D' (hn D') (hsl D') 8 [(0, (0, x0)), (3, (0, x3)), (4, (0, x4)), (5, (1, x5))] [] D) {x0 x3 x4 x5 x7 s0 : Int} {D : ga_D} (hP : h_P D) (h : h_X58_check_j55 x0 x3 x4 x5 x7 s0 D k8 = some (r, D')) : aw_HW G "WasteHouse$DepositCodes$Numbers" cX58_check (some (.int)) 9 0 false M0 Q aw_no D' (hn D') (hsl D') 55 [(0, (0, x0)), (3, (0, x3)), (4, (0, x4)), (5, (1, x5)), (7, (0, x7))] [(0, s0)] D := by
  unfold h_X58_check_j55 at h
  refine hw_1 (fun k => x_istore (ls' := [(8, (0, s0)), (0, (0, x0)), (3, (0, x3)), (4, (0, x4)), (5, (1, x5)), (7, (0, x7))]) dX58_check_55 (by decide) rfl k) ?_
  refine hw_1 (fun k => x_iload_n dX58_check_57 rfl k) ?_
  refine hw_1 (fun k => x_iload dX58_check_58 rfl k) ?_
  by_cases c60 : x4 = 0
  · rw [if_pos c60] at h
    refine hw_1 (fun k => x_if_eq (tgt := 68) dX58_check_60 (by decide) (fun _ => k) (fun z => absurd c60 z)) ?_
    refine hw_1 (fun k => x_iload dX58_check_68 rfl k) ?_
    refine hw_locs [1, 3, 4] (ls' := [(0, (0, x0)), (4, (0, x4)), (5, (1, x5))]) rfl ?_
    refine h_X58_check_j70_ok hq (fun x0 x3 x4 x5 D8 hP h => ?_) hP h
    · exact hk8 _ _ _ _ _ hP h
  · rw [if_neg c60] at h
    refine hw_1 (fun k => x_if_eq (tgt := 68) dX58_check_60 (by decide) (fun z => absurd z c60) (fun _ => k)) ?_
    refine hw_1 (fun k => x_iload dX58_check_63 rfl k) ?_
    refine hw_1 (fun k => x_goto (tgt := 70) dX58_check_65 (by decide) k) ?_
    refine hw_locs [1, 3, 4] (ls' := [(0, (0, x0)), (4, (0, x4)), (5, (1, x5))]) rfl ?_
    refine h_X58_check_j70_ok hq (fun x0 x3 x4 x5 D8 hP h => ?_) hP h
    · exact hk8 _ _ _ _ _ hP h
theorem h_X58_check_l8_ok {G : aw_G} {M0 : aw_M} {D' : ga_D} {Q : Option aw_V → aw_M → Prop} {r : Int} (hq : Q (some (0, r)) (hM D')) {k95 : Int → ga_D → ga_S} (hk95 : ∀ (x3 : Int) (D : ga_D), h_P D → k95 x3 D = some (r, D') → aw_HW G "WasteHouse$DepositCodes$Numbers" cX58_check (some (.int)) 9 0 false M0 Q aw_no D' (hn D') (hsl D') 95 [(3, (0, x3))] [] D) : ∀ {n : Nat} {x0 x3 x4 x5 : Int} {D : ga_D}, h_P D → h_X58_check_l8 n x0 x3 x4 x5 D k95 = some (r, D') → aw_HW G "WasteHouse$DepositCodes$Numbers" cX58_check (some (.int)) 9 0 false M0 Q aw_no D' (hn D') (hsl D') 8 [(0, (0, x0)), (3, (0, x3)), (4, (0, x4)), (5, (1, x5))] [] D := by
  intro n
  induction n with
  | zero => intro x0 x3 x4 x5 D hP h; exact absurd (h : (none : ga_S) = some (r, D')) (by intro h; cases h)
  | succ n ih =>
    intro x0 x3 x4 x5 D hP h
    have ih : ∀ (x0 x3 x4 x5 : Int) (D : ga_D), h_P D → h_X58_check_l8 n x0 x3 x4 x5 D k95 = some (r, D') → aw_HW G "WasteHouse$DepositCodes$Numbers" cX58_check (some (.int)) 9 0 false M0 Q aw_no D' (hn D') (hsl D') 8 [(0, (0, x0)), (3, (0, x3)), (4, (0, x4)), (5, (1, x5))] [] D := fun x0 x3 x4 x5 D hP h => ih hP h
    replace h : (if x5 ≤ 0 then (k95 x3 D) else (ga_let (aw_w32 (Int.tmod x5 10)) (fun v22 => if x0 ≠ 0 then (if v22 ≤ 4 then (h_X58_check_j55 x0 x3 x4 x5 v22 (aw_w32 (2 * v22)) D (fun x0 x3 x4 x5 D8 => h_X58_check_l8 n x0 x3 x4 x5 D8 k95)) else (h_X58_check_j55 x0 x3 x4 x5 v22 (aw_w32 ((aw_w32 (2 * v22)) - 9)) D (fun x0 x3 x4 x5 D8 => h_X58_check_l8 n x0 x3 x4 x5 D8 k95))) else (h_X58_check_j55 x0 x3 x4 x5 v22 (aw_w32 (3 * v22)) D (fun x0 x3 x4 x5 D8 => h_X58_check_l8 n x0 x3 x4 x5 D8 k95)))) : ga_S) = some (r, D') := h
    refine hw_1 (fun k => x_lload dX58_check_8 rfl k) ?_
    refine hw_1 (fun k => x_lconst (v := 0) dX58_check_10 rfl k) ?_
    refine hw_1 (fun k => x_lcmp dX58_check_11 rfl k) ?_
    by_cases c12 : x5 ≤ 0
    · rw [if_pos c12] at h
      refine hw_1 (fun k => x_if_le (tgt := 95) dX58_check_12 (by decide) (fun _ => k) (fun z => absurd (cmi_le.mpr c12) z)) ?_
      refine hw_locs [1] (ls' := [(3, (0, x3))]) rfl ?_
      exact hk95 _ _ hP h
    · rw [if_neg c12] at h
      refine hw_1 (fun k => x_if_le (tgt := 95) dX58_check_12 (by decide) (fun z => absurd (cmi_le.mp z) c12) (fun _ => k)) ?_
      refine hw_1 (fun k => x_lload dX58_check_15 rfl k) ?_
      refine hw_1 (fun k => x_ldc2 (z := 10) dX58_check_17 q3516 (by decide) k) ?_
      refine hw_1 (fun k => x_lrem dX58_check_20 (by decide) rfl k) ?_
      refine hw_1 (fun k => x_l2i dX58_check_21 rfl k) ?_
      replace h := ga_let_some h; obtain ⟨v22, ev22, h⟩ := h
      refine hw_nm ev22 ?_
      refine hw_1 (fun k => x_istore (ls' := [(7, (0, v22)), (0, (0, x0)), (3, (0, x3)), (4, (0, x4)), (5, (1, x5))]) dX58_check_22 (by decide) rfl k) ?_
      refine hw_1 (fun k => x_iload_n dX58_check_24 rfl k) ?_
      by_cases c25 : x0 ≠ 0
      · rw [if_pos c25] at h
        refine hw_1 (fun k => x_if_ne (tgt := 35) dX58_check_25 (by decide) (fun _ => k) (fun z => absurd c25 z)) ?_
        refine hw_1 (fun k => x_iload dX58_check_35 rfl k) ?_
        refine hw_1 (fun k => x_iconst dX58_check_37 (by decide) k) ?_
        by_cases c38 : v22 ≤ 4
        · rw [if_pos c38] at h
          refine hw_1 (fun k => x_icmp_le (tgt := 51) dX58_check_38 (by decide) (fun _ => k) (fun z => absurd c38 z)) ?_
          refine hw_1 (fun k => x_iconst dX58_check_51 (by decide) k) ?_
          refine hw_1 (fun k => x_iload dX58_check_52 rfl k) ?_
          refine hw_1 (fun k => x_imul dX58_check_54 rfl k) ?_
          refine hw_locs [1, 2, 3, 4, 0] (ls' := [(0, (0, x0)), (3, (0, x3)), (4, (0, x4)), (5, (1, x5)), (7, (0, v22))]) rfl ?_
          refine h_X58_check_j55_ok hq (fun x0 x3 x4 x5 D8 hP h => ?_) hP h
          · exact ih _ _ _ _ _ hP h
        · rw [if_neg c38] at h
          refine hw_1 (fun k => x_icmp_le (tgt := 51) dX58_check_38 (by decide) (fun z => absurd z c38) (fun _ => k)) ?_
          refine hw_1 (fun k => x_iconst dX58_check_41 (by decide) k) ?_
          refine hw_1 (fun k => x_iload dX58_check_42 rfl k) ?_
          refine hw_1 (fun k => x_imul dX58_check_44 rfl k) ?_
          refine hw_1 (fun k => x_bipush dX58_check_45 (by decide) k) ?_
          refine hw_1 (fun k => x_isub dX58_check_47 rfl k) ?_
          refine hw_1 (fun k => x_goto (tgt := 55) dX58_check_48 (by decide) k) ?_
          refine hw_locs [1, 2, 3, 4, 0] (ls' := [(0, (0, x0)), (3, (0, x3)), (4, (0, x4)), (5, (1, x5)), (7, (0, v22))]) rfl ?_
          refine h_X58_check_j55_ok hq (fun x0 x3 x4 x5 D8 hP h => ?_) hP h
          · exact ih _ _ _ _ _ hP h
      · rw [if_neg c25] at h
        refine hw_1 (fun k => x_if_ne (tgt := 35) dX58_check_25 (by decide) (fun z => absurd z c25) (fun _ => k)) ?_
        refine hw_1 (fun k => x_iconst dX58_check_28 (by decide) k) ?_
        refine hw_1 (fun k => x_iload dX58_check_29 rfl k) ?_
        refine hw_1 (fun k => x_imul dX58_check_31 rfl k) ?_
        refine hw_1 (fun k => x_goto (tgt := 55) dX58_check_32 (by decide) k) ?_
        refine hw_locs [1, 2, 3, 4, 0] (ls' := [(0, (0, x0)), (3, (0, x3)), (4, (0, x4)), (5, (1, x5)), (7, (0, v22))]) rfl ?_
        refine h_X58_check_j55_ok hq (fun x0 x3 x4 x5 D8 hP h => ?_) hP h
        · exact ih _ _ _ _ _ hP h
theorem h_X58_check_ok {G : aw_G} {D D' : ga_D} {r : Int} {x0 x1 : Int} (hP : h_P D) (h : h_X58_check x0 x1 D = some (r, D')) : aw_HR yX58_check cX58_check 9 (some (.int)) 0 G [(0, x0), (1, x1)] D (some (0, r)) D' := by
  unfold h_X58_check at h
  refine hw_body (own := "WasteHouse$DepositCodes$Numbers") (ini := false) (ls := [(0, (0, x0)), (1, (1, x1))]) rfl rfl (fun h => by cases h) (Nat.le_of_ble_eq_true rfl) rfl fun Q hq => ?_
  refine hw_1 (fun k => x_iconst dX58_check_0 (by decide) k) ?_
  refine hw_1 (fun k => x_istore_n (ls' := [(3, (0, 0)), (0, (0, x0)), (1, (1, x1))]) dX58_check_1 (by decide) rfl k) ?_
  refine hw_1 (fun k => x_iconst dX58_check_2 (by decide) k) ?_
  refine hw_1 (fun k => x_istore (ls' := [(4, (0, 1)), (3, (0, 0)), (0, (0, x0)), (1, (1, x1))]) dX58_check_3 (by decide) rfl k) ?_
  refine hw_1 (fun k => x_lload_n dX58_check_5 rfl k) ?_
  refine hw_1 (fun k => x_lstore (ls' := [(5, (1, x1)), (4, (0, 1)), (3, (0, 0)), (0, (0, x0)), (1, (1, x1))]) dX58_check_6 (by decide) rfl k) ?_
  refine hw_locs [3, 2, 1, 0] (ls' := [(0, (0, x0)), (3, (0, 0)), (4, (0, 1)), (5, (1, x1))]) rfl ?_
  refine h_X58_check_l8_ok hq (fun x3 D95 hP h => ?_) hP h
  · refine hw_1 (fun k => x_bipush dX58_check_95 (by decide) k) ?_
    refine hw_1 (fun k => x_iload_n dX58_check_97 rfl k) ?_
    refine hw_1 (fun k => x_bipush dX58_check_98 (by decide) k) ?_
    refine hw_1 (fun k => x_irem dX58_check_100 (by decide) rfl k) ?_
    refine hw_1 (fun k => x_isub dX58_check_101 rfl k) ?_
    refine hw_1 (fun k => x_bipush dX58_check_102 (by decide) k) ?_
    refine hw_1 (fun k => x_irem dX58_check_104 (by decide) rfl k) ?_
    obtain ⟨rfl, rfl⟩ := ga_end h
    exact hw_ret hP (x_iret dX58_check_105 rfl rfl trivial hq)
theorem h_X58_isGood_ok {G : aw_G} {D D' : ga_D} {r : Int} {x0 x1 : Int} (hP : h_P D) (h : h_X58_isGood x0 x1 D = some (r, D')) : aw_HR yX58_isGood cX58_isGood 3 (some (.boolean)) 1 G [(0, x0), (1, x1)] D (some (0, r)) D' := by
  unfold h_X58_isGood at h
  refine hw_body (own := "WasteHouse$DepositCodes$Numbers") (ini := false) (ls := [(0, (0, x0)), (1, (1, x1))]) rfl rfl (fun h => by cases h) (Nat.le_of_ble_eq_true rfl) rfl fun Q hq => ?_
  refine hw_1 (fun k => x_iload_n dX58_isGood_0 rfl k) ?_
  refine hw_1 (fun k => x_lload_n dX58_isGood_1 rfl k) ?_
  refine hw_1 (fun k => x_ldc2 (z := 10) dX58_isGood_2 q3516 (by decide) k) ?_
  refine hw_1 (fun k => x_ldiv dX58_isGood_5 (by decide) rfl k) ?_
  replace h := ga_bind_some h; obtain ⟨r6, D6, g6, h⟩ := h
  have hR6 := (h_X58_check_ok (G := G) hP g6)
  obtain ⟨hP6, hE6, -⟩ := id hR6
  refine hw_call (rest := []) hR6 (fun hc hk9 => x_callS (as := [(0, x0), (1, aw_w64 (Int.tdiv x1 10))]) (rest := []) dX58_isGood_6 hc (lw_S q3524 q3514 q481 q3515) (show _ ∧ _ ∧ _ = some 2 from by decide +kernel) (by decide) (by decide) rfl (Nat.le_of_ble_eq_true rfl) hk9 aw_nox) ?_
  refine hw_1 (fun k => x_i2l dX58_isGood_9 rfl k) ?_
  refine hw_1 (fun k => x_lload_n dX58_isGood_10 rfl k) ?_
  refine hw_1 (fun k => x_ldc2 (z := 10) dX58_isGood_11 q3516 (by decide) k) ?_
  refine hw_1 (fun k => x_lrem dX58_isGood_14 (by decide) rfl k) ?_
  refine hw_1 (fun k => x_lcmp dX58_isGood_15 rfl k) ?_
  by_cases c16 : r6 ≠ Int.tmod x1 10
  · rw [if_pos c16] at h
    refine hw_1 (fun k => x_if_ne (tgt := 23) dX58_isGood_16 (by decide) (fun _ => k) (fun z => absurd (cmi_ne.mpr c16) z)) ?_
    refine hw_1 (fun k => x_iconst dX58_isGood_23 (by decide) k) ?_
    obtain ⟨rfl, rfl⟩ := ga_end h
    exact hw_ret hP6 (x_iret dX58_isGood_24 rfl rfl (show (0 : Int) ≤ 0 ∧ (0 : Int) < 2 from by decide) hq)
  · rw [if_neg c16] at h
    refine hw_1 (fun k => x_if_ne (tgt := 23) dX58_isGood_16 (by decide) (fun z => absurd (cmi_ne.mp z) c16) (fun _ => k)) ?_
    refine hw_1 (fun k => x_iconst dX58_isGood_19 (by decide) k) ?_
    refine hw_1 (fun k => x_goto (tgt := 24) dX58_isGood_20 (by decide) k) ?_
    obtain ⟨rfl, rfl⟩ := ga_end h
    exact hw_ret hP6 (x_iret dX58_isGood_24 rfl rfl (show (0 : Int) ≤ 1 ∧ (1 : Int) < 2 from by decide) hq)
theorem h_X34_reasonFor_ok {G : aw_G} {D D' : ga_D} {r : Int} {x1 x2 x4 x5 : Int} (hP : h_P D) (h : h_X34_reasonFor x1 x2 x4 x5 D = some (r, D')) : aw_HR yX34_reasonFor cX34_reasonFor 7 (some (.int)) 5 G [(2, 5028), (0, x1), (1, x2), (0, x4), (0, x5)] D (some (0, r)) D' := by
  unfold h_X34_reasonFor at h
  refine hw_body (own := "WasteHouse$DepositCodes") (ini := false) (ls := [(0, (2, 5028)), (1, (0, x1)), (2, (1, x2)), (4, (0, x4)), (5, (0, x5))]) rfl rfl (fun h => by cases h) (Nat.le_of_ble_eq_true rfl) rfl fun Q hq => ?_
  refine hw_1 (fun k => x_aload_n dX34_reasonFor_0 rfl k) ?_
  refine hw_1 (fun k => x_iload_n dX34_reasonFor_1 rfl k) ?_
  replace h := ga_bind_some h; obtain ⟨r2, D2, g2, h⟩ := h
  have hR2 := (h_X34_isMachine_ok (G := G) hP g2)
  obtain ⟨hP2, hE2, -⟩ := id hR2
  refine hw_call (rest := []) hR2 (fun hc hk9 => x_callV (as := [(0, x1)]) (rest := []) dX34_reasonFor_2 hc (lw_V q4170 q4172 qs32 q433 q4173) (hkS (D := D) (show ga_K 5028 = (31, 0) from by decide +kernel) (by decide)) rfl rfl (show _ ∧ _ ∧ _ ∧ _ = some 1 from by decide +kernel) (by decide) (by decide) rfl (Nat.le_of_ble_eq_true rfl) hk9 aw_nox) ?_
  by_cases c5 : r2 ≠ 0
  · rw [if_pos c5] at h
    refine hw_1 (fun k => x_if_ne (tgt := 10) dX34_reasonFor_5 (by decide) (fun _ => k) (fun z => absurd c5 z)) ?_
    refine hw_1 (fun k => x_aload_n dX34_reasonFor_10 rfl k) ?_
    refine hw_1 (fun k => x_getf (v := 5033) dX34_reasonFor_11 fl_X34_19 (hkS (D := D2) (show ga_K 5028 = (31, 0) from by decide +kernel) (by decide)) (hP2.1 5028 1 5033 (by decide +kernel)) k) ?_
    refine hw_1 (fun k => x_iload_n dX34_reasonFor_14 rfl k) ?_
    replace h := ga_bind_some h; obtain ⟨r15, D15, g15, h⟩ := h
    have hR15 := (h_J2_get_ok (G := G) hP2 g15)
    obtain ⟨hP15, hE15, -⟩ := id hR15
    refine hw_call (rest := []) hR15 (fun hc hk9 => x_callV (as := [(0, x1)]) (rest := []) dX34_reasonFor_15 hc (lw_V q4174 q3183 q3184 q401 q3185) (hkS (D := D2) (show ga_K 5033 = (60, 0) from by decide +kernel) (by decide)) rfl rfl (show _ ∧ _ ∧ _ ∧ _ = some 1 from by decide +kernel) (by decide) (by decide) rfl (Nat.le_of_ble_eq_true rfl) hk9 aw_nox) ?_
    replace h := ga_ck_some h; obtain ⟨hc18_0, h⟩ := h
    refine hw_1 (fun k => x_castL (L := [54]) dX34_reasonFor_18 q3533 sbl_WasteHouse_DepositCodes_Machine (aw_or1 hc18_0) k) ?_
    refine hw_1 (fun k => x_astore (ls' := [(6, (2, r15)), (0, (2, 5028)), (1, (0, x1)), (2, (1, x2)), (4, (0, x4)), (5, (0, x5))]) dX34_reasonFor_21 (by decide) rfl k) ?_
    refine hw_1 (fun k => x_aload dX34_reasonFor_23 rfl k) ?_
    replace h := ga_ck_some h; obtain ⟨hc25_1, h⟩ := h
    refine hw_1 (fun k => x_getf (v := D15 r15 2) dX34_reasonFor_25 fl_X34_116 hc25_1 rfl k) ?_
    by_cases c28 : D15 r15 2 = 0
    · rw [if_pos c28] at h
      refine hw_1 (fun k => x_if_eq (tgt := 33) dX34_reasonFor_28 (by decide) (fun _ => k) (fun z => absurd c28 z)) ?_
      refine hw_1 (fun k => x_aload dX34_reasonFor_33 rfl k) ?_
      refine hw_1 (fun k => x_getf (v := D15 r15 3) dX34_reasonFor_35 fl_X34_120 hc25_1 rfl k) ?_
      by_cases c38 : D15 r15 3 ≠ 0
      · rw [if_pos c38] at h
        refine hw_1 (fun k => x_if_ne (tgt := 43) dX34_reasonFor_38 (by decide) (fun _ => k) (fun z => absurd c38 z)) ?_
        refine hw_1 (fun k => x_iload dX34_reasonFor_43 rfl k) ?_
        by_cases c45 : x4 < 0
        · rw [if_pos c45] at h
          refine hw_1 (fun k => x_if_lt (tgt := 65) dX34_reasonFor_45 (by decide) (fun _ => k) (fun z => absurd c45 z)) ?_
          refine hw_1 (fun k => x_iconst dX34_reasonFor_65 (by decide) k) ?_
          obtain ⟨rfl, rfl⟩ := ga_end h
          exact hw_ret hP15 (x_iret dX34_reasonFor_66 rfl rfl trivial hq)
        · rw [if_neg c45] at h
          refine hw_1 (fun k => x_if_lt (tgt := 65) dX34_reasonFor_45 (by decide) (fun z => absurd z c45) (fun _ => k)) ?_
          refine hw_1 (fun k => x_iload dX34_reasonFor_48 rfl k) ?_
          refine hw_1 (fun k => x_bipush dX34_reasonFor_50 (by decide) k) ?_
          by_cases c52 : 8 ≤ x4
          · rw [if_pos c52] at h
            refine hw_1 (fun k => x_icmp_ge (tgt := 65) dX34_reasonFor_52 (by decide) (fun _ => k) (fun z => absurd c52 z)) ?_
            refine hw_1 (fun k => x_iconst dX34_reasonFor_65 (by decide) k) ?_
            obtain ⟨rfl, rfl⟩ := ga_end h
            exact hw_ret hP15 (x_iret dX34_reasonFor_66 rfl rfl trivial hq)
          · rw [if_neg c52] at h
            refine hw_1 (fun k => x_icmp_ge (tgt := 65) dX34_reasonFor_52 (by decide) (fun z => absurd z c52) (fun _ => k)) ?_
            refine hw_1 (fun k => x_aload_n dX34_reasonFor_55 rfl k) ?_
            refine hw_1 (fun k => x_getf (v := 5034) dX34_reasonFor_56 fl_X34_25 (hkS (D := D15) (show ga_K 5028 = (31, 0) from by decide +kernel) (by decide)) (hP15.1 5028 2 5034 (by decide +kernel)) k) ?_
            refine hw_1 (fun k => x_iload dX34_reasonFor_59 rfl k) ?_
            replace h := ga_ck_some h; obtain ⟨hc61_0, h⟩ := h
            refine hw_1 (fun k => x_aald (t := 16) (v := D15 5034 x4) dX34_reasonFor_61 (hkS (D := D15) (show ga_K 5034 = (1016, 8) from by decide +kernel) (by decide)) rfl rfl hc61_0.1 hc61_0.2 rfl k) ?_
            by_cases c62 : D15 5034 x4 ≠ 0
            · rw [if_pos c62] at h
              refine hw_1 (fun k => x_ifnonnull (tgt := 67) dX34_reasonFor_62 (by decide) (fun _ => k) (fun z => absurd c62 z)) ?_
              refine hw_1 (fun k => x_aload_n dX34_reasonFor_67 rfl k) ?_
              refine hw_1 (fun k => x_getf (v := 5034) dX34_reasonFor_68 fl_X34_25 (hkS (D := D15) (show ga_K 5028 = (31, 0) from by decide +kernel) (by decide)) (hP15.1 5028 2 5034 (by decide +kernel)) k) ?_
              refine hw_1 (fun k => x_iload dX34_reasonFor_71 rfl k) ?_
              replace h := ga_ck_some h; obtain ⟨hc73_0, h⟩ := h
              refine hw_1 (fun k => x_aald (t := 16) (v := D15 5034 x4) dX34_reasonFor_73 (hkS (D := D15) (show ga_K 5034 = (1016, 8) from by decide +kernel) (by decide)) rfl rfl hc73_0.1 hc73_0.2 rfl k) ?_
              refine hw_1 (fun k => x_iload dX34_reasonFor_74 rfl k) ?_
              replace h := ga_ck_some h; obtain ⟨hc76_1, h⟩ := h
              replace h := ga_bind_some h; obtain ⟨r76, D76, g76, h⟩ := h
              have hR76 := (h_X61_has_ok (G := G) hP15 g76)
              obtain ⟨hP76, hE76, -⟩ := id hR76
              refine hw_call (rest := []) hR76 (fun hc hk9 => x_callV (as := [(0, x5)]) (rest := []) dX34_reasonFor_76 hc (lw_V q4188 q4189 q4190 q491 q4191) hc76_1 rfl rfl (show _ ∧ _ ∧ _ ∧ _ = some 1 from by decide +kernel) (by decide) (by decide) rfl (Nat.le_of_ble_eq_true rfl) hk9 aw_nox) ?_
              by_cases c79 : r76 ≠ 0
              · rw [if_pos c79] at h
                refine hw_1 (fun k => x_if_ne (tgt := 84) dX34_reasonFor_79 (by decide) (fun _ => k) (fun z => absurd c79 z)) ?_
                refine hw_1 (fun k => x_iconst dX34_reasonFor_84 (by decide) k) ?_
                refine hw_1 (fun k => x_lload_n dX34_reasonFor_85 rfl k) ?_
                replace h := ga_bind_some h; obtain ⟨r86, D86, g86, h⟩ := h
                have hR86 := (h_X58_isGood_ok (G := G) hP76 g86)
                obtain ⟨hP86, hE86, -⟩ := id hR86
                refine hw_call (rest := []) hR86 (fun hc hk9 => x_callS (as := [(0, 0), (1, x2)]) (rest := []) dX34_reasonFor_86 hc (lw_S q3521 q3522 q481 q3523) (show _ ∧ _ ∧ _ = some 2 from by decide +kernel) (by decide) (by decide) rfl (Nat.le_of_ble_eq_true rfl) hk9 aw_nox) ?_
                by_cases c89 : r86 ≠ 0
                · rw [if_pos c89] at h
                  refine hw_1 (fun k => x_if_ne (tgt := 95) dX34_reasonFor_89 (by decide) (fun _ => k) (fun z => absurd c89 z)) ?_
                  refine hw_1 (fun k => x_aload dX34_reasonFor_95 rfl k) ?_
                  refine hw_1 (fun k => x_getf (v := D86 r15 1) dX34_reasonFor_97 fl_X34_126 (h_kx hE86 (h_kx hE76 hc25_1 (by decide)) (by decide)) rfl k) ?_
                  replace h := ga_ck_some h; obtain ⟨hc100_0, h⟩ := h
                  refine hw_1 (fun k => x_getf (v := D86 (D86 r15 1) 0) dX34_reasonFor_100 fl_X34_129 hc100_0 rfl k) ?_
                  refine hw_1 (fun k => x_lload_n dX34_reasonFor_103 rfl k) ?_
                  replace h := ga_bind_some h; obtain ⟨r104, D104, g104, h⟩ := h
                  have hR104 := (h_J30_valueOf_ok (G := G) hP86 g104)
                  obtain ⟨hP104, hE104, -⟩ := id hR104
                  refine hw_call (rest := [(2, D86 (D86 r15 1) 0)]) hR104 (fun hc hk9 => x_callS (as := [(1, x2)]) (rest := [(2, D86 (D86 r15 1) 0)]) dX34_reasonFor_104 hc (lw_S q4192 q4193 q485 q4194) (show _ ∧ _ ∧ _ = some 1 from by decide +kernel) (by decide) (by decide) rfl (Nat.le_of_ble_eq_true rfl) hk9 aw_nox) ?_
                  replace h := ga_ck_some h; obtain ⟨hc107_1, h⟩ := h
                  replace h := ga_bind_some h; obtain ⟨r107, D107, g107, h⟩ := h
                  have hR107 := (h_J4_containsKey_ok (G := G) hP104 g107)
                  obtain ⟨hP107, hE107, -⟩ := id hR107
                  refine hw_call (rest := []) hR107 (fun hc hk9 => x_callV (as := [(2, r104)]) (rest := []) dX34_reasonFor_107 hc (lw_V q4208 q4209 q4210 q403 q4211) hc107_1 rfl rfl (show _ ∧ _ ∧ _ ∧ _ = some 1 from by decide +kernel) (by decide) (by decide) rfl (Nat.le_of_ble_eq_true rfl) hk9 aw_nox) ?_
                  by_cases c110 : r107 = 0
                  · rw [if_pos c110] at h
                    refine hw_1 (fun k => x_if_eq (tgt := 118) dX34_reasonFor_110 (by decide) (fun _ => k) (fun z => absurd c110 z)) ?_
                    refine hw_1 (fun k => x_iconst dX34_reasonFor_118 (by decide) k) ?_
                    obtain ⟨rfl, rfl⟩ := ga_end h
                    exact hw_ret hP107 (x_iret dX34_reasonFor_119 rfl rfl trivial hq)
                  · rw [if_neg c110] at h
                    refine hw_1 (fun k => x_if_eq (tgt := 118) dX34_reasonFor_110 (by decide) (fun z => absurd z c110) (fun _ => k)) ?_
                    refine hw_1 (fun k => x_bipush dX34_reasonFor_113 (by decide) k) ?_
                    refine hw_1 (fun k => x_goto (tgt := 119) dX34_reasonFor_115 (by decide) k) ?_
                    obtain ⟨rfl, rfl⟩ := ga_end h
                    exact hw_ret hP107 (x_iret dX34_reasonFor_119 rfl rfl trivial hq)
                · rw [if_neg c89] at h
                  refine hw_1 (fun k => x_if_ne (tgt := 95) dX34_reasonFor_89 (by decide) (fun z => absurd z c89) (fun _ => k)) ?_
                  refine hw_1 (fun k => x_bipush dX34_reasonFor_92 (by decide) k) ?_
                  obtain ⟨rfl, rfl⟩ := ga_end h
                  exact hw_ret hP86 (x_iret dX34_reasonFor_94 rfl rfl trivial hq)
              · rw [if_neg c79] at h
                refine hw_1 (fun k => x_if_ne (tgt := 84) dX34_reasonFor_79 (by decide) (fun z => absurd z c79) (fun _ => k)) ?_
                refine hw_1 (fun k => x_iconst dX34_reasonFor_82 (by decide) k) ?_
                obtain ⟨rfl, rfl⟩ := ga_end h
                exact hw_ret hP76 (x_iret dX34_reasonFor_83 rfl rfl trivial hq)
            · rw [if_neg c62] at h
              refine hw_1 (fun k => x_ifnonnull (tgt := 67) dX34_reasonFor_62 (by decide) (fun z => absurd z c62) (fun _ => k)) ?_
              refine hw_1 (fun k => x_iconst dX34_reasonFor_65 (by decide) k) ?_
              obtain ⟨rfl, rfl⟩ := ga_end h
              exact hw_ret hP15 (x_iret dX34_reasonFor_66 rfl rfl trivial hq)
      · rw [if_neg c38] at h
        refine hw_1 (fun k => x_if_ne (tgt := 43) dX34_reasonFor_38 (by decide) (fun z => absurd z c38) (fun _ => k)) ?_
        refine hw_1 (fun k => x_iconst dX34_reasonFor_41 (by decide) k) ?_
        obtain ⟨rfl, rfl⟩ := ga_end h
        exact hw_ret hP15 (x_iret dX34_reasonFor_42 rfl rfl trivial hq)
    · rw [if_neg c28] at h
      refine hw_1 (fun k => x_if_eq (tgt := 33) dX34_reasonFor_28 (by decide) (fun z => absurd z c28) (fun _ => k)) ?_
      refine hw_1 (fun k => x_iconst dX34_reasonFor_31 (by decide) k) ?_
      obtain ⟨rfl, rfl⟩ := ga_end h
      exact hw_ret hP15 (x_iret dX34_reasonFor_32 rfl rfl trivial hq)
  · rw [if_neg c5] at h
    refine hw_1 (fun k => x_if_ne (tgt := 10) dX34_reasonFor_5 (by decide) (fun z => absurd z c5) (fun _ => k)) ?_
    refine hw_1 (fun k => x_iconst dX34_reasonFor_8 (by decide) k) ?_
    obtain ⟨rfl, rfl⟩ := ga_end h
    exact hw_ret hP2 (x_iret dX34_reasonFor_9 rfl rfl trivial hq)
theorem h_X59_system_ok {G : aw_G} {D D' : ga_D} {r : Int} {x0 : Int} (hP : h_P D) (h : h_X59_system x0 D = some (r, D')) : aw_HR yX59_system cX59_system 1 (some (.int)) 0 G [(2, x0)] D (some (0, r)) D' := by
  unfold h_X59_system at h
  refine hw_body (own := "WasteHouse$DepositCodes$Machine") (ini := false) (ls := [(0, (2, x0))]) rfl rfl (fun h => by cases h) (Nat.le_of_ble_eq_true rfl) rfl fun Q hq => ?_
  refine hw_1 (fun k => x_aload_n dX59_system_0 rfl k) ?_
  replace h := ga_ck_some h; obtain ⟨hc1_0, h⟩ := h
  refine hw_1 (fun k => x_getf (v := D x0 0) dX59_system_1 fl_X59_26 hc1_0 rfl k) ?_
  refine hw_1 (fun k => x_iconst dX59_system_4 (by decide) k) ?_
  refine hw_1 (fun k => x_irem dX59_system_5 (by decide) rfl k) ?_
  obtain ⟨rfl, rfl⟩ := ga_end h
  exact hw_ret hP (x_iret dX59_system_6 rfl rfl trivial hq)
theorem h_X58_system_ok {G : aw_G} {D D' : ga_D} {r : Int} {x0 : Int} (hP : h_P D) (h : h_X58_system x0 D = some (r, D')) : aw_HR yX58_system cX58_system 2 (some (.int)) 0 G [(1, x0)] D (some (0, r)) D' := by
  unfold h_X58_system at h
  refine hw_body (own := "WasteHouse$DepositCodes$Numbers") (ini := false) (ls := [(0, (1, x0))]) rfl rfl (fun h => by cases h) (Nat.le_of_ble_eq_true rfl) rfl fun Q hq => ?_
  refine hw_1 (fun k => x_lload_n dX58_system_0 rfl k) ?_
  refine hw_1 (fun k => x_ldc2 (z := 10) dX58_system_1 q3516 (by decide) k) ?_
  refine hw_1 (fun k => x_ldiv dX58_system_4 (by decide) rfl k) ?_
  refine hw_1 (fun k => x_ldc2 (z := 10) dX58_system_5 q3516 (by decide) k) ?_
  refine hw_1 (fun k => x_lrem dX58_system_8 (by decide) rfl k) ?_
  refine hw_1 (fun k => x_l2i dX58_system_9 rfl k) ?_
  refine hw_1 (fun k => x_iconst dX58_system_10 (by decide) k) ?_
  refine hw_1 (fun k => x_irem dX58_system_11 (by decide) rfl k) ?_
  obtain ⟨rfl, rfl⟩ := ga_end h
  exact hw_ret hP (x_iret dX58_system_12 rfl rfl trivial hq)
theorem h_X34_pay_j95_ok {G : aw_G} {M0 : aw_M} {D' : ga_D} {Q : Option aw_V → aw_M → Prop} {r : Int} (hq : Q none (hM D')) {x1 x2 x6 : Int} {D : ga_D} (hP : h_P D) (h : h_X34_pay_j95 x1 x2 x6 D = some (r, D')) : aw_HW G "WasteHouse$DepositCodes" cX34_pay none 7 7 false M0 Q aw_no D' (hn D') (hsl D') 95 [(1, (2, x1)), (2, (1, x2)), (6, (2, x6))] [] D := by
  unfold h_X34_pay_j95 at h
  refine hw_1 (fun k => x_aload dX34_pay_95 rfl k) ?_
  refine hw_1 (fun k => x_aload_n dX34_pay_97 rfl k) ?_
  replace h := ga_ck_some h; obtain ⟨hc98_0, h⟩ := h
  replace h := ga_bind_some h; obtain ⟨r98, D98, g98, h⟩ := h
  have hR98 := (h_X59_system_ok (G := G) hP g98)
  obtain ⟨hP98, hE98, -⟩ := id hR98
  refine hw_call (rest := [(2, x6)]) hR98 (fun hc hk9 => x_callV (as := []) (rest := [(2, x6)]) dX34_pay_98 hc (lw_V q4319 q4320 q4321 q482 q4322) hc98_0 rfl rfl (show _ ∧ _ ∧ _ ∧ _ = some 0 from by decide +kernel) (by decide) (by decide) rfl (Nat.le_of_ble_eq_true rfl) hk9 aw_nox) ?_
  refine hw_1 (fun k => x_dup2 dX34_pay_101 rfl rfl k) ?_
  replace h := ga_ck_some h; obtain ⟨hc102_1, h⟩ := h
  replace h := ga_ck_some h; obtain ⟨hc102_2, h⟩ := h
  refine hw_1 (fun k => x_lald (v := D98 x6 r98) dX34_pay_102 (hk_p hc102_1) hc102_2.1 hc102_2.2 rfl k) ?_
  refine hw_1 (fun k => x_ldc2 (z := 25) dX34_pay_103 q4323 (by decide) k) ?_
  refine hw_1 (fun k => x_lsub dX34_pay_106 rfl k) ?_
  replace h := ga_ck_some h; obtain ⟨hc107_3, h⟩ := h
  replace h := ga_ck_some h; obtain ⟨hc107_4, h⟩ := h
  replace h := ga_let_some h; obtain ⟨D107, eD107, h⟩ := h
  refine hw_set eD107 (Int.le_trans (by decide) hc107_3) hc107_4.1 (fun k => x_last dX34_pay_107 (hk_p hc102_1) hc107_3 hc107_4.1 hc107_4.2 k) ?_
  have hP107 : h_P D107 := hP98.set eD107 hc107_3 hc107_4.1 (hPn (hk_p hc102_1) rfl)
  have hE107 : h_E D98 D107 := h_E_set eD107 hc107_4.1
  refine hw_1 (fun k => x_aload dX34_pay_108 rfl k) ?_
  refine hw_1 (fun k => x_lload_n dX34_pay_110 rfl k) ?_
  replace h := ga_bind_some h; obtain ⟨r111, D111, g111, h⟩ := h
  have hR111 := (h_X58_system_ok (G := G) hP107 g111)
  obtain ⟨hP111, hE111, -⟩ := id hR111
  refine hw_call (rest := [(2, x6)]) hR111 (fun hc hk9 => x_callS (as := [(1, x2)]) (rest := [(2, x6)]) dX34_pay_111 hc (lw_S q4324 q4325 q481 q4326) (show _ ∧ _ ∧ _ = some 1 from by decide +kernel) (by decide) (by decide) rfl (Nat.le_of_ble_eq_true rfl) hk9 aw_nox) ?_
  refine hw_1 (fun k => x_dup2 dX34_pay_114 rfl rfl k) ?_
  replace h := ga_ck_some h; obtain ⟨hc115_5, h⟩ := h
  refine hw_1 (fun k => x_lald (v := D111 x6 r111) dX34_pay_115 (h_kx hE111 (h_kx hE107 (hk_p hc102_1) (by decide)) (by decide)) hc115_5.1 hc115_5.2 rfl k) ?_
  refine hw_1 (fun k => x_ldc2 (z := 25) dX34_pay_116 q4323 (by decide) k) ?_
  refine hw_1 (fun k => x_ladd dX34_pay_119 rfl k) ?_
  replace h := ga_ck_some h; obtain ⟨hc120_6, h⟩ := h
  replace h := ga_let_some h; obtain ⟨D120, eD120, h⟩ := h
  refine hw_set eD120 (Int.le_trans (by decide) hc107_3) hc120_6.1 (fun k => x_last dX34_pay_120 (h_kx hE111 (h_kx hE107 (hk_p hc102_1) (by decide)) (by decide)) hc107_3 hc120_6.1 hc120_6.2 k) ?_
  have hP120 : h_P D120 := hP111.set eD120 hc107_3 hc120_6.1 (hPn (h_kx hE111 (h_kx hE107 (hk_p hc102_1) (by decide)) (by decide)) rfl)
  have hE120 : h_E D111 D120 := h_E_set eD120 hc120_6.1
  obtain ⟨rfl, rfl⟩ := ga_end h
  exact hw_ret hP120 (x_vret dX34_pay_121 rfl hq)
theorem h_X34_pay_ok {G : aw_G} {D D' : ga_D} {r : Int} {x1 x2 x4 x5 : Int} (hP : h_P D) (h : h_X34_pay x1 x2 x4 x5 D = some (r, D')) : aw_HR yX34_pay cX34_pay 7 none 7 G [(2, 5028), (2, x1), (1, x2), (0, x4), (0, x5)] D none D' := by
  unfold h_X34_pay at h
  refine hw_body (own := "WasteHouse$DepositCodes") (ini := false) (ls := [(0, (2, 5028)), (1, (2, x1)), (2, (1, x2)), (4, (0, x4)), (5, (0, x5))]) rfl rfl (fun h => by cases h) (Nat.le_of_ble_eq_true rfl) rfl fun Q hq => ?_
  refine hw_1 (fun k => x_aload_n dX34_pay_0 rfl k) ?_
  replace h := ga_ck_some h; obtain ⟨hc1_0, h⟩ := h
  refine hw_1 (fun k => x_getf (v := D x1 1) dX34_pay_1 fl_X34_126 hc1_0 rfl k) ?_
  replace h := ga_ck_some h; obtain ⟨hc4_1, h⟩ := h
  refine hw_1 (fun k => x_getf (v := D (D x1 1) 0) dX34_pay_4 fl_X34_129 hc4_1 rfl k) ?_
  refine hw_1 (fun k => x_lload_n dX34_pay_7 rfl k) ?_
  replace h := ga_bind_some h; obtain ⟨r8, D8, g8, h⟩ := h
  have hR8 := (h_J30_valueOf_ok (G := G) hP g8)
  obtain ⟨hP8, hE8, -⟩ := id hR8
  refine hw_call (rest := [(2, D (D x1 1) 0)]) hR8 (fun hc hk9 => x_callS (as := [(1, x2)]) (rest := [(2, D (D x1 1) 0)]) dX34_pay_8 hc (lw_S q4192 q4193 q485 q4194) (show _ ∧ _ ∧ _ = some 1 from by decide +kernel) (by decide) (by decide) rfl (Nat.le_of_ble_eq_true rfl) hk9 aw_nox) ?_
  refine hw_1 (fun k => x_aload_n dX34_pay_11 rfl k) ?_
  refine hw_1 (fun k => x_getf (v := D8 x1 0) dX34_pay_12 fl_X34_181 (h_kx hE8 hc1_0 (by decide)) rfl k) ?_
  replace h := ga_bind_some h; obtain ⟨r15, D15, g15, h⟩ := h
  have hR15 := (h_J25_valueOf_ok (G := G) hP8 g15)
  obtain ⟨hP15, hE15, -⟩ := id hR15
  refine hw_call (rest := [(2, r8), (2, D (D x1 1) 0)]) hR15 (fun hc hk9 => x_callS (as := [(0, D8 x1 0)]) (rest := [(2, r8), (2, D (D x1 1) 0)]) dX34_pay_15 hc (lw_S q4235 q3560 q476 q3561) (show _ ∧ _ ∧ _ = some 1 from by decide +kernel) (by decide) (by decide) rfl (Nat.le_of_ble_eq_true rfl) hk9 aw_nox) ?_
  replace h := ga_ck_some h; obtain ⟨hc18_2, h⟩ := h
  replace h := ga_bind_some h; obtain ⟨r18, D18, g18, h⟩ := h
  have hR18 := (h_J4_put_ok (G := G) hP15 g18)
  obtain ⟨hP18, hE18, -⟩ := id hR18
  refine hw_call (rest := []) hR18 (fun hc hk9 => x_callV (as := [(2, r8), (2, r15)]) (rest := []) dX34_pay_18 hc (lw_V q4236 q4237 q4238 q403 q4239) hc18_2 rfl rfl (show _ ∧ _ ∧ _ ∧ _ = some 2 from by decide +kernel) (by decide) (by decide) rfl (Nat.le_of_ble_eq_true rfl) hk9 aw_nox) ?_
  refine hw_1 (fun k => x_pop dX34_pay_21 rfl k) ?_
  refine hw_1 (fun k => x_aload_n dX34_pay_22 rfl k) ?_
  refine hw_1 (fun k => x_getf (v := D18 x1 4) dX34_pay_23 fl_X34_184 (h_kx hE18 (h_kx hE15 (h_kx hE8 hc1_0 (by decide)) (by decide)) (by decide)) rfl k) ?_
  refine hw_1 (fun k => x_iload dX34_pay_26 rfl k) ?_
  refine hw_1 (fun k => x_dup2 dX34_pay_28 rfl rfl k) ?_
  replace h := ga_ck_some h; obtain ⟨hc29_3, h⟩ := h
  replace h := ga_ck_some h; obtain ⟨hc29_4, h⟩ := h
  refine hw_1 (fun k => x_iald (v := D18 (D18 x1 4) x4) dX34_pay_29 (hk_p hc29_3) hc29_4.1 hc29_4.2 rfl k) ?_
  refine hw_1 (fun k => x_iconst dX34_pay_30 (by decide) k) ?_
  refine hw_1 (fun k => x_iadd dX34_pay_31 rfl k) ?_
  replace h := ga_ck_some h; obtain ⟨hc32_5, h⟩ := h
  replace h := ga_ck_some h; obtain ⟨hc32_6, h⟩ := h
  replace h := ga_let_some h; obtain ⟨D32, eD32, h⟩ := h
  refine hw_set eD32 (Int.le_trans (by decide) hc32_5) hc32_6.1 (fun k => x_iast dX34_pay_32 (hk_p hc29_3) hc32_5 hc32_6.1 hc32_6.2 k) ?_
  have hP32 : h_P D32 := hP18.set eD32 hc32_5 hc32_6.1 (hPn (hk_p hc29_3) rfl)
  have hE32 : h_E D18 D32 := h_E_set eD32 hc32_6.1
  refine hw_1 (fun k => x_aload_n dX34_pay_33 rfl k) ?_
  refine hw_1 (fun k => x_dup dX34_pay_34 rfl k) ?_
  refine hw_1 (fun k => x_getf (v := D32 x1 5) dX34_pay_35 fl_X34_188 (h_kx hE32 (h_kx hE18 (h_kx hE15 (h_kx hE8 hc1_0 (by decide)) (by decide)) (by decide)) (by decide)) rfl k) ?_
  refine hw_1 (fun k => x_iconst dX34_pay_38 (by decide) k) ?_
  refine hw_1 (fun k => x_iadd dX34_pay_39 rfl k) ?_
  replace h := ga_let_some h; obtain ⟨D40, eD40, h⟩ := h
  refine hw_set eD40 (Int.le_trans (by decide) (hkge_54 (h_kx hE32 (h_kx hE18 (h_kx hE15 (h_kx hE8 hc1_0 (by decide)) (by decide)) (by decide)) (by decide)))) (by decide) (fun k => x_putf dX34_pay_40 fl_X34_188 rfl (h_kx hE32 (h_kx hE18 (h_kx hE15 (h_kx hE8 hc1_0 (by decide)) (by decide)) (by decide)) (by decide)) (hkge_54 (h_kx hE32 (h_kx hE18 (h_kx hE15 (h_kx hE8 hc1_0 (by decide)) (by decide)) (by decide)) (by decide))) trivial k) ?_
  have hP40 : h_P D40 := hP32.set eD40 (hkge_54 (h_kx hE32 (h_kx hE18 (h_kx hE15 (h_kx hE8 hc1_0 (by decide)) (by decide)) (by decide)) (by decide))) (by decide) (hPn (h_kx hE32 (h_kx hE18 (h_kx hE15 (h_kx hE8 hc1_0 (by decide)) (by decide)) (by decide)) (by decide)) rfl)
  have hE40 : h_E D32 D40 := h_E_set eD40 (by decide)
  refine hw_1 (fun k => x_aload_n dX34_pay_43 rfl k) ?_
  refine hw_1 (fun k => x_dup dX34_pay_44 rfl k) ?_
  refine hw_1 (fun k => x_getf (v := D40 5028 11) dX34_pay_45 fl_X34_145 (hkS (D := D40) (show ga_K 5028 = (31, 0) from by decide +kernel) (by decide)) rfl k) ?_
  refine hw_1 (fun k => x_iconst dX34_pay_48 (by decide) k) ?_
  refine hw_1 (fun k => x_iadd dX34_pay_49 rfl k) ?_
  replace h := ga_let_some h; obtain ⟨D50, eD50, h⟩ := h
  refine hw_set eD50 (by decide) (by decide) (fun k => x_putf dX34_pay_50 fl_X34_145 rfl (hkS (D := D40) (show ga_K 5028 = (31, 0) from by decide +kernel) (by decide)) (by decide) trivial k) ?_
  have hP50 : h_P D50 := hP40.set eD50 (by decide) (by decide) (hPn (hkS (D := D40) (show ga_K 5028 = (31, 0) from by decide +kernel) (by decide)) rfl)
  have hE50 : h_E D40 D50 := h_E_set eD50 (by decide)
  refine hw_1 (fun k => x_aload_n dX34_pay_53 rfl k) ?_
  refine hw_1 (fun k => x_getf (v := 5039) dX34_pay_54 fl_X34_46 (hkS (D := D50) (show ga_K 5028 = (31, 0) from by decide +kernel) (by decide)) (hP50.1 5028 6 5039 (by decide +kernel)) k) ?_
  refine hw_1 (fun k => x_iload dX34_pay_57 rfl k) ?_
  replace h := ga_bind_some h; obtain ⟨r59, D59, g59, h⟩ := h
  have hR59 := (h_J25_valueOf_ok (G := G) hP50 g59)
  obtain ⟨hP59, hE59, -⟩ := id hR59
  refine hw_call (rest := [(2, 5039)]) hR59 (fun hc hk9 => x_callS (as := [(0, x5)]) (rest := [(2, 5039)]) dX34_pay_59 hc (lw_S q4235 q3560 q476 q3561) (show _ ∧ _ ∧ _ = some 1 from by decide +kernel) (by decide) (by decide) rfl (Nat.le_of_ble_eq_true rfl) hk9 aw_nox) ?_
  replace h := ga_bind_some h; obtain ⟨r62, D62, g62, h⟩ := h
  have hR62 := (h_J4_get_ok (G := G) hP59 g62)
  obtain ⟨hP62, hE62, -⟩ := id hR62
  refine hw_call (rest := []) hR62 (fun hc hk9 => x_callV (as := [(2, r59)]) (rest := []) dX34_pay_62 hc (lw_V q4314 q4315 q4316 q403 q4317) (hkS (D := D59) (show ga_K 5039 = (61, 0) from by decide +kernel) (by decide)) rfl rfl (show _ ∧ _ ∧ _ ∧ _ = some 1 from by decide +kernel) (by decide) (by decide) rfl (Nat.le_of_ble_eq_true rfl) hk9 aw_nox) ?_
  replace h := ga_ck_some h; obtain ⟨hc65_7, h⟩ := h
  refine hw_1 (fun k => x_castA (t := 1) dX34_pay_65 q4318 rfl rfl (hc65_7.imp id hk_p) k) ?_
  refine hw_1 (fun k => x_astore (ls' := [(6, (2, r62)), (0, (2, 5028)), (1, (2, x1)), (2, (1, x2)), (4, (0, x4)), (5, (0, x5))]) dX34_pay_68 (by decide) rfl k) ?_
  refine hw_1 (fun k => x_aload dX34_pay_70 rfl k) ?_
  by_cases c72 : r62 ≠ 0
  · rw [if_pos c72] at h
    refine hw_1 (fun k => x_ifnonnull (tgt := 95) dX34_pay_72 (by decide) (fun _ => k) (fun z => absurd c72 z)) ?_
    refine hw_locs [2, 3, 0] (ls' := [(1, (2, x1)), (2, (1, x2)), (6, (2, r62))]) rfl ?_
    refine h_X34_pay_j95_ok hq hP62 h
  · rw [if_neg c72] at h
    refine hw_1 (fun k => x_ifnonnull (tgt := 95) dX34_pay_72 (by decide) (fun z => absurd z c72) (fun _ => k)) ?_
    refine hw_1 (fun k => x_iconst dX34_pay_75 (by decide) k) ?_
    replace h := ga_let_some h; obtain ⟨z76, ez76, h⟩ := h
    replace h := ga_let_some h; obtain ⟨D76, eD76, h⟩ := h
    refine hy_newa (t := 1) hP62 ez76 eD76 rfl rfl dX34_pay_76 rfl (by decide) q1197 (by decide) (by decide) (fun hP76 hE76 hz76 hg76 => ?_)
    refine hw_1 (fun k => x_astore (ls' := [(6, (2, z76)), (0, (2, 5028)), (1, (2, x1)), (2, (1, x2)), (4, (0, x4)), (5, (0, x5))]) dX34_pay_78 (by decide) rfl k) ?_
    refine hw_1 (fun k => x_aload_n dX34_pay_80 rfl k) ?_
    refine hw_1 (fun k => x_getf (v := 5039) dX34_pay_81 fl_X34_46 (hkS (D := D76) (show ga_K 5028 = (31, 0) from by decide +kernel) (by decide)) (hP76.1 5028 6 5039 (by decide +kernel)) k) ?_
    refine hw_1 (fun k => x_iload dX34_pay_84 rfl k) ?_
    replace h := ga_bind_some h; obtain ⟨r86, D86, g86, h⟩ := h
    have hR86 := (h_J25_valueOf_ok (G := G) hP76 g86)
    obtain ⟨hP86, hE86, -⟩ := id hR86
    refine hw_call (rest := [(2, 5039)]) hR86 (fun hc hk9 => x_callS (as := [(0, x5)]) (rest := [(2, 5039)]) dX34_pay_86 hc (lw_S q4235 q3560 q476 q3561) (show _ ∧ _ ∧ _ = some 1 from by decide +kernel) (by decide) (by decide) rfl (Nat.le_of_ble_eq_true rfl) hk9 aw_nox) ?_
    refine hw_1 (fun k => x_aload dX34_pay_89 rfl k) ?_
    replace h := ga_bind_some h; obtain ⟨r91, D91, g91, h⟩ := h
    have hR91 := (h_J4_put_ok (G := G) hP86 g91)
    obtain ⟨hP91, hE91, -⟩ := id hR91
    refine hw_call (rest := []) hR91 (fun hc hk9 => x_callV (as := [(2, r86), (2, z76)]) (rest := []) dX34_pay_91 hc (lw_V q4236 q4237 q4238 q403 q4239) (hkS (D := D86) (show ga_K 5039 = (61, 0) from by decide +kernel) (by decide)) rfl rfl (show _ ∧ _ ∧ _ ∧ _ = some 2 from by decide +kernel) (by decide) (by decide) rfl (Nat.le_of_ble_eq_true rfl) hk9 aw_nox) ?_
    refine hw_1 (fun k => x_pop dX34_pay_94 rfl k) ?_
    refine hw_locs [2, 3, 0] (ls' := [(1, (2, x1)), (2, (1, x2)), (6, (2, z76))]) rfl ?_
    refine h_X34_pay_j95_ok hq hP91 h
theorem h_X34_give_j124_ok {G : aw_G} {M0 : aw_M} {D' : ga_D} {Q : Option aw_V → aw_M → Prop} {r : Int} (hq : Q (some (0, r)) (hM D')) {x1 x2 s0 : Int} {D : ga_D} (hP : h_P D) (h : h_X34_give_j124 x1 x2 s0 D = some (r, D')) : aw_HW G "WasteHouse$DepositCodes" cX34_give (some (.int)) 10 11 false M0 Q aw_no D' (hn D') (hsl D') 124 [(0, (2, 5028)), (1, (0, x1)), (2, (1, x2))] [(0, s0)] D := by
  unfold h_X34_give_j124 at h
  refine hw_1 (fun k => x_istore (ls' := [(9, (0, s0)), (0, (2, 5028)), (1, (0, x1)), (2, (1, x2))]) dX34_give_124 (by decide) rfl k) ?_
  refine hw_1 (fun k => x_aload_n dX34_give_126 rfl k) ?_
  refine hw_1 (fun k => x_getf (v := 5036) dX34_give_127 fl_X34_35 (hkS (D := D) (show ga_K 5028 = (31, 0) from by decide +kernel) (by decide)) (hP.1 5028 4 5036 (by decide +kernel)) k) ?_
  refine hw_1 (fun k => x_lload_n dX34_give_130 rfl k) ?_
  replace h := ga_bind_some h; obtain ⟨r131, D131, g131, h⟩ := h
  have hR131 := (h_J30_valueOf_ok (G := G) hP g131)
  obtain ⟨hP131, hE131, -⟩ := id hR131
  refine hw_call (rest := [(2, 5036)]) hR131 (fun hc hk9 => x_callS (as := [(1, x2)]) (rest := [(2, 5036)]) dX34_give_131 hc (lw_S q4192 q4193 q485 q4194) (show _ ∧ _ ∧ _ = some 1 from by decide +kernel) (by decide) (by decide) rfl (Nat.le_of_ble_eq_true rfl) hk9 aw_nox) ?_
  refine hw_1 (fun k => x_iload dX34_give_134 rfl k) ?_
  replace h := ga_bind_some h; obtain ⟨r136, D136, g136, h⟩ := h
  have hR136 := (h_J25_valueOf_ok (G := G) hP131 g136)
  obtain ⟨hP136, hE136, -⟩ := id hR136
  refine hw_call (rest := [(2, r131), (2, 5036)]) hR136 (fun hc hk9 => x_callS (as := [(0, s0)]) (rest := [(2, r131), (2, 5036)]) dX34_give_136 hc (lw_S q4235 q3560 q476 q3561) (show _ ∧ _ ∧ _ = some 1 from by decide +kernel) (by decide) (by decide) rfl (Nat.le_of_ble_eq_true rfl) hk9 aw_nox) ?_
  replace h := ga_bind_some h; obtain ⟨r139, D139, g139, h⟩ := h
  have hR139 := (h_J4_put_ok (G := G) hP136 g139)
  obtain ⟨hP139, hE139, -⟩ := id hR139
  refine hw_call (rest := []) hR139 (fun hc hk9 => x_callV (as := [(2, r131), (2, r136)]) (rest := []) dX34_give_139 hc (lw_V q4236 q4237 q4238 q403 q4239) (hkS (D := D136) (show ga_K 5036 = (61, 0) from by decide +kernel) (by decide)) rfl rfl (show _ ∧ _ ∧ _ ∧ _ = some 2 from by decide +kernel) (by decide) (by decide) rfl (Nat.le_of_ble_eq_true rfl) hk9 aw_nox) ?_
  refine hw_1 (fun k => x_pop dX34_give_142 rfl k) ?_
  refine hw_1 (fun k => x_iload dX34_give_143 rfl k) ?_
  refine hw_1 (fun k => x_iconst dX34_give_145 (by decide) k) ?_
  refine hw_1 (fun k => x_irem dX34_give_146 (by decide) rfl k) ?_
  by_cases c147 : Int.tmod s0 3 ≠ 0
  · rw [if_pos c147] at h
    refine hw_1 (fun k => x_if_ne (tgt := 161) dX34_give_147 (by decide) (fun _ => k) (fun z => absurd c147 z)) ?_
    refine hw_1 (fun k => x_iconst dX34_give_161 (by decide) k) ?_
    obtain ⟨rfl, rfl⟩ := ga_end h
    exact hw_ret hP139 (x_iret dX34_give_162 rfl rfl trivial hq)
  · rw [if_neg c147] at h
    refine hw_1 (fun k => x_if_ne (tgt := 161) dX34_give_147 (by decide) (fun z => absurd z c147) (fun _ => k)) ?_
    refine hw_1 (fun k => x_aload_n dX34_give_150 rfl k) ?_
    refine hw_1 (fun k => x_getf (v := 5037) dX34_give_151 fl_X34_42 (hkS (D := D139) (show ga_K 5028 = (31, 0) from by decide +kernel) (by decide)) (hP139.1 5028 5 5037 (by decide +kernel)) k) ?_
    refine hw_1 (fun k => x_iload_n dX34_give_154 rfl k) ?_
    replace h := ga_bind_some h; obtain ⟨r155, D155, g155, h⟩ := h
    have hR155 := (h_J25_valueOf_ok (G := G) hP139 g155)
    obtain ⟨hP155, hE155, -⟩ := id hR155
    refine hw_call (rest := [(2, 5037)]) hR155 (fun hc hk9 => x_callS (as := [(0, x1)]) (rest := [(2, 5037)]) dX34_give_155 hc (lw_S q4235 q3560 q476 q3561) (show _ ∧ _ ∧ _ = some 1 from by decide +kernel) (by decide) (by decide) rfl (Nat.le_of_ble_eq_true rfl) hk9 aw_nox) ?_
    replace h := ga_bind_some h; obtain ⟨r158, D158, g158, h⟩ := h
    have hR158 := (h_J7_addLast_ok (G := G) hP155 g158)
    obtain ⟨hP158, hE158, -⟩ := id hR158
    refine hw_call (rest := []) hR158 (fun hc hk9 => x_callV (as := [(2, r155)]) (rest := []) dX34_give_158 hc (lw_V q4329 q4330 q4331 q435 q4332) (hkS (D := D155) (show ga_K 5037 = (62, 0) from by decide +kernel) (by decide)) rfl rfl (show _ ∧ _ ∧ _ ∧ _ = some 1 from by decide +kernel) (by decide) (by decide) rfl (Nat.le_of_ble_eq_true rfl) hk9 aw_nox) ?_
    refine hw_1 (fun k => x_iconst dX34_give_161 (by decide) k) ?_
    obtain ⟨rfl, rfl⟩ := ga_end h
    exact hw_ret hP158 (x_iret dX34_give_162 rfl rfl trivial hq)
theorem h_X34_give_ok {G : aw_G} {D D' : ga_D} {r : Int} {x1 x2 x4 x5 x6 : Int} (hP : h_P D) (h : h_X34_give x1 x2 x4 x5 x6 D = some (r, D')) : aw_HR yX34_give cX34_give 10 (some (.int)) 11 G [(2, 5028), (0, x1), (1, x2), (0, x4), (0, x5), (1, x6)] D (some (0, r)) D' := by
  unfold h_X34_give at h
  refine hw_body (own := "WasteHouse$DepositCodes") (ini := false) (ls := [(0, (2, 5028)), (1, (0, x1)), (2, (1, x2)), (4, (0, x4)), (5, (0, x5)), (6, (1, x6))]) rfl rfl (fun h => by cases h) (Nat.le_of_ble_eq_true rfl) rfl fun Q hq => ?_
  refine hw_1 (fun k => x_lload_n dX34_give_0 rfl k) ?_
  replace h := ga_bind_some h; obtain ⟨r1, D1, g1, h⟩ := h
  have hR1 := (h_X58_is_ok (G := G) hP g1)
  obtain ⟨hP1, hE1, -⟩ := id hR1
  refine hw_call (rest := []) hR1 (fun hc hk9 => x_callS (as := [(1, x2)]) (rest := []) dX34_give_1 hc (lw_S q3509 q3510 q481 q3511) (show _ ∧ _ ∧ _ = some 1 from by decide +kernel) (by decide) (by decide) rfl (Nat.le_of_ble_eq_true rfl) hk9 aw_nox) ?_
  by_cases c4 : r1 = 0
  · rw [if_pos c4] at h
    refine hw_1 (fun k => x_if_eq (tgt := 33) dX34_give_4 (by decide) (fun _ => k) (fun z => absurd c4 z)) ?_
    refine hw_1 (fun k => x_iconst dX34_give_33 (by decide) k) ?_
    obtain ⟨rfl, rfl⟩ := ga_end h
    exact hw_ret hP1 (x_iret dX34_give_34 rfl rfl trivial hq)
  · rw [if_neg c4] at h
    refine hw_1 (fun k => x_if_eq (tgt := 33) dX34_give_4 (by decide) (fun z => absurd z c4) (fun _ => k)) ?_
    refine hw_1 (fun k => x_lload dX34_give_7 rfl k) ?_
    refine hw_1 (fun k => x_lconst (v := 0) dX34_give_9 rfl k) ?_
    refine hw_1 (fun k => x_lcmp dX34_give_10 rfl k) ?_
    by_cases c11 : x6 < 0
    · rw [if_pos c11] at h
      refine hw_1 (fun k => x_if_lt (tgt := 33) dX34_give_11 (by decide) (fun _ => k) (fun z => absurd (cmi_lt.mpr c11) z)) ?_
      refine hw_1 (fun k => x_iconst dX34_give_33 (by decide) k) ?_
      obtain ⟨rfl, rfl⟩ := ga_end h
      exact hw_ret hP1 (x_iret dX34_give_34 rfl rfl trivial hq)
    · rw [if_neg c11] at h
      refine hw_1 (fun k => x_if_lt (tgt := 33) dX34_give_11 (by decide) (fun z => absurd (cmi_lt.mp z) c11) (fun _ => k)) ?_
      refine hw_1 (fun k => x_lload dX34_give_14 rfl k) ?_
      refine hw_1 (fun k => x_ldc2 (z := 100000000000) dX34_give_16 q4183 (by decide) k) ?_
      refine hw_1 (fun k => x_lcmp dX34_give_19 rfl k) ?_
      by_cases c20 : 100000000000 < x6
      · rw [if_pos c20] at h
        refine hw_1 (fun k => x_if_gt (tgt := 33) dX34_give_20 (by decide) (fun _ => k) (fun z => absurd (cmi_gt.mpr c20) z)) ?_
        refine hw_1 (fun k => x_iconst dX34_give_33 (by decide) k) ?_
        obtain ⟨rfl, rfl⟩ := ga_end h
        exact hw_ret hP1 (x_iret dX34_give_34 rfl rfl trivial hq)
      · rw [if_neg c20] at h
        refine hw_1 (fun k => x_if_gt (tgt := 33) dX34_give_20 (by decide) (fun z => absurd (cmi_gt.mp z) c20) (fun _ => k)) ?_
        refine hw_1 (fun k => x_aload_n dX34_give_23 rfl k) ?_
        refine hw_1 (fun k => x_getf (v := D1 5028 11) dX34_give_24 fl_X34_145 (hkS (D := D1) (show ga_K 5028 = (31, 0) from by decide +kernel) (by decide)) rfl k) ?_
        refine hw_1 (fun k => x_sipush dX34_give_27 (by decide) k) ?_
        by_cases c30 : D1 5028 11 ≠ 200
        · rw [if_pos c30] at h
          refine hw_1 (fun k => x_icmp_ne (tgt := 35) dX34_give_30 (by decide) (fun _ => k) (fun z => absurd c30 z)) ?_
          refine hw_1 (fun k => x_aload_n dX34_give_35 rfl k) ?_
          refine hw_1 (fun k => x_aload_n dX34_give_36 rfl k) ?_
          refine hw_1 (fun k => x_iload_n dX34_give_37 rfl k) ?_
          refine hw_1 (fun k => x_lload_n dX34_give_38 rfl k) ?_
          refine hw_1 (fun k => x_iload dX34_give_39 rfl k) ?_
          refine hw_1 (fun k => x_iload dX34_give_41 rfl k) ?_
          replace h := ga_bind_some h; obtain ⟨r43, D43, g43, h⟩ := h
          have hR43 := (h_X34_reasonFor_ok (G := G) hP1 g43)
          obtain ⟨hP43, hE43, -⟩ := id hR43
          refine hw_call (rest := [(2, 5028)]) hR43 (fun hc hk9 => x_callV (as := [(0, x1), (1, x2), (0, x4), (0, x5)]) (rest := [(2, 5028)]) dX34_give_43 hc (lw_V q4184 q4186 qs33 q433 q4187) (hkS (D := D1) (show ga_K 5028 = (31, 0) from by decide +kernel) (by decide)) rfl rfl (show _ ∧ _ ∧ _ ∧ _ = some 4 from by decide +kernel) (by decide) (by decide) rfl (Nat.le_of_ble_eq_true rfl) hk9 aw_nox) ?_
          replace h := ga_let_some h; obtain ⟨D46, eD46, h⟩ := h
          refine hw_set eD46 (by decide) (by decide) (fun k => x_putf dX34_give_46 fl_X34_153 rfl (hkS (D := D43) (show ga_K 5028 = (31, 0) from by decide +kernel) (by decide)) (by decide) trivial k) ?_
          have hP46 : h_P D46 := hP43.set eD46 (by decide) (by decide) (hPn (hkS (D := D43) (show ga_K 5028 = (31, 0) from by decide +kernel) (by decide)) rfl)
          have hE46 : h_E D43 D46 := h_E_set eD46 (by decide)
          refine hw_1 (fun k => x_aload_n dX34_give_49 rfl k) ?_
          refine hw_1 (fun k => x_getf (v := D46 5028 12) dX34_give_50 fl_X34_153 (hkS (D := D46) (show ga_K 5028 = (31, 0) from by decide +kernel) (by decide)) rfl k) ?_
          by_cases c53 : D46 5028 12 ≠ 0
          · rw [if_pos c53] at h
            refine hw_1 (fun k => x_if_ne (tgt := 83) dX34_give_53 (by decide) (fun _ => k) (fun z => absurd c53 z)) ?_
            refine hw_1 (fun k => x_aload_n dX34_give_83 rfl k) ?_
            refine hw_1 (fun k => x_getf (v := D46 5028 12) dX34_give_84 fl_X34_153 (hkS (D := D46) (show ga_K 5028 = (31, 0) from by decide +kernel) (by decide)) rfl k) ?_
            refine hw_1 (fun k => x_bipush dX34_give_87 (by decide) k) ?_
            by_cases c89 : D46 5028 12 ≠ 7
            · rw [if_pos c89] at h
              refine hw_1 (fun k => x_icmp_ne (tgt := 161) dX34_give_89 (by decide) (fun _ => k) (fun z => absurd c89 z)) ?_
              refine hw_1 (fun k => x_iconst dX34_give_161 (by decide) k) ?_
              obtain ⟨rfl, rfl⟩ := ga_end h
              exact hw_ret hP46 (x_iret dX34_give_162 rfl rfl trivial hq)
            · rw [if_neg c89] at h
              refine hw_1 (fun k => x_icmp_ne (tgt := 161) dX34_give_89 (by decide) (fun z => absurd z c89) (fun _ => k)) ?_
              refine hw_1 (fun k => x_aload_n dX34_give_92 rfl k) ?_
              refine hw_1 (fun k => x_getf (v := 5036) dX34_give_93 fl_X34_35 (hkS (D := D46) (show ga_K 5028 = (31, 0) from by decide +kernel) (by decide)) (hP46.1 5028 4 5036 (by decide +kernel)) k) ?_
              refine hw_1 (fun k => x_lload_n dX34_give_96 rfl k) ?_
              replace h := ga_bind_some h; obtain ⟨r97, D97, g97, h⟩ := h
              have hR97 := (h_J30_valueOf_ok (G := G) hP46 g97)
              obtain ⟨hP97, hE97, -⟩ := id hR97
              refine hw_call (rest := [(2, 5036)]) hR97 (fun hc hk9 => x_callS (as := [(1, x2)]) (rest := [(2, 5036)]) dX34_give_97 hc (lw_S q4192 q4193 q485 q4194) (show _ ∧ _ ∧ _ = some 1 from by decide +kernel) (by decide) (by decide) rfl (Nat.le_of_ble_eq_true rfl) hk9 aw_nox) ?_
              replace h := ga_bind_some h; obtain ⟨r100, D100, g100, h⟩ := h
              have hR100 := (h_J4_get_ok (G := G) hP97 g100)
              obtain ⟨hP100, hE100, -⟩ := id hR100
              refine hw_call (rest := []) hR100 (fun hc hk9 => x_callV (as := [(2, r97)]) (rest := []) dX34_give_100 hc (lw_V q4314 q4315 q4316 q403 q4317) (hkS (D := D97) (show ga_K 5036 = (61, 0) from by decide +kernel) (by decide)) rfl rfl (show _ ∧ _ ∧ _ ∧ _ = some 1 from by decide +kernel) (by decide) (by decide) rfl (Nat.le_of_ble_eq_true rfl) hk9 aw_nox) ?_
              replace h := ga_ck_some h; obtain ⟨hc103_0, h⟩ := h
              refine hw_1 (fun k => x_castL (L := [70]) dX34_give_103 q4327 sbl_java_lang_Integer (aw_or1 hc103_0) k) ?_
              refine hw_1 (fun k => x_astore (ls' := [(8, (2, r100)), (0, (2, 5028)), (1, (0, x1)), (2, (1, x2)), (4, (0, x4)), (5, (0, x5)), (6, (1, x6))]) dX34_give_106 (by decide) rfl k) ?_
              refine hw_1 (fun k => x_aload dX34_give_108 rfl k) ?_
              by_cases c110 : r100 ≠ 0
              · rw [if_pos c110] at h
                refine hw_1 (fun k => x_ifnonnull (tgt := 117) dX34_give_110 (by decide) (fun _ => k) (fun z => absurd c110 z)) ?_
                refine hw_1 (fun k => x_aload dX34_give_117 rfl k) ?_
                replace h := ga_ck_some h; obtain ⟨hc119_0, h⟩ := h
                replace h := ga_bind_some h; obtain ⟨r119, D119, g119, h⟩ := h
                have hR119 := (h_J25_intValue_ok (G := G) hP100 g119)
                obtain ⟨hP119, hE119, -⟩ := id hR119
                refine hw_call (rest := []) hR119 (fun hc hk9 => x_callV (as := []) (rest := []) dX34_give_119 hc (lw_V q4328 q3152 q3153 q476 q3154) hc119_0 rfl rfl (show _ ∧ _ ∧ _ ∧ _ = some 0 from by decide +kernel) (by decide) (by decide) rfl (Nat.le_of_ble_eq_true rfl) hk9 aw_nox) ?_
                refine hw_1 (fun k => x_iconst dX34_give_122 (by decide) k) ?_
                refine hw_1 (fun k => x_iadd dX34_give_123 rfl k) ?_
                refine hw_locs [1, 2, 3] (ls' := [(0, (2, 5028)), (1, (0, x1)), (2, (1, x2))]) rfl ?_
                refine h_X34_give_j124_ok hq hP119 h
              · rw [if_neg c110] at h
                refine hw_1 (fun k => x_ifnonnull (tgt := 117) dX34_give_110 (by decide) (fun z => absurd z c110) (fun _ => k)) ?_
                refine hw_1 (fun k => x_iconst dX34_give_113 (by decide) k) ?_
                refine hw_1 (fun k => x_goto (tgt := 124) dX34_give_114 (by decide) k) ?_
                refine hw_locs [1, 2, 3] (ls' := [(0, (2, 5028)), (1, (0, x1)), (2, (1, x2))]) rfl ?_
                refine h_X34_give_j124_ok hq hP100 h
          · rw [if_neg c53] at h
            refine hw_1 (fun k => x_if_ne (tgt := 83) dX34_give_53 (by decide) (fun z => absurd z c53) (fun _ => k)) ?_
            refine hw_1 (fun k => x_aload_n dX34_give_56 rfl k) ?_
            refine hw_1 (fun k => x_aload_n dX34_give_57 rfl k) ?_
            refine hw_1 (fun k => x_getf (v := 5033) dX34_give_58 fl_X34_19 (hkS (D := D46) (show ga_K 5028 = (31, 0) from by decide +kernel) (by decide)) (hP46.1 5028 1 5033 (by decide +kernel)) k) ?_
            refine hw_1 (fun k => x_iload_n dX34_give_61 rfl k) ?_
            replace h := ga_bind_some h; obtain ⟨r62, D62, g62, h⟩ := h
            have hR62 := (h_J2_get_ok (G := G) hP46 g62)
            obtain ⟨hP62, hE62, -⟩ := id hR62
            refine hw_call (rest := [(2, 5028)]) hR62 (fun hc hk9 => x_callV (as := [(0, x1)]) (rest := [(2, 5028)]) dX34_give_62 hc (lw_V q4174 q3183 q3184 q401 q3185) (hkS (D := D46) (show ga_K 5033 = (60, 0) from by decide +kernel) (by decide)) rfl rfl (show _ ∧ _ ∧ _ ∧ _ = some 1 from by decide +kernel) (by decide) (by decide) rfl (Nat.le_of_ble_eq_true rfl) hk9 aw_nox) ?_
            replace h := ga_ck_some h; obtain ⟨hc65_0, h⟩ := h
            refine hw_1 (fun k => x_castL (L := [54]) dX34_give_65 q3533 sbl_WasteHouse_DepositCodes_Machine (aw_or1 hc65_0) k) ?_
            refine hw_1 (fun k => x_lload_n dX34_give_68 rfl k) ?_
            refine hw_1 (fun k => x_iload dX34_give_69 rfl k) ?_
            refine hw_1 (fun k => x_lload dX34_give_71 rfl k) ?_
            refine hw_1 (fun k => x_ldc2 (z := 2592000) dX34_give_73 q4230 (by decide) k) ?_
            refine hw_1 (fun k => x_ldiv dX34_give_76 (by decide) rfl k) ?_
            refine hw_1 (fun k => x_l2i dX34_give_77 rfl k) ?_
            replace h := ga_bind_some h; obtain ⟨r78, D78, g78, h⟩ := h
            have hR78 := (h_X34_pay_ok (G := G) hP62 g78)
            obtain ⟨hP78, hE78, -⟩ := id hR78
            refine hw_call (rest := []) hR78 (fun hc hk9 => x_callV (as := [(2, r62), (1, x2), (0, x4), (0, aw_w32 (aw_w64 (Int.tdiv x6 2592000)))]) (rest := []) dX34_give_78 hc (lw_V q4231 q4233 qs34 q433 q4234) (hkS (D := D62) (show ga_K 5028 = (31, 0) from by decide +kernel) (by decide)) rfl rfl (show _ ∧ _ ∧ _ ∧ _ = some 4 from by decide +kernel) (by decide) (by decide) rfl (Nat.le_of_ble_eq_true rfl) hk9 aw_nox) ?_
            refine hw_1 (fun k => x_iconst dX34_give_81 (by decide) k) ?_
            obtain ⟨rfl, rfl⟩ := ga_end h
            exact hw_ret hP78 (x_iret dX34_give_82 rfl rfl trivial hq)
        · rw [if_neg c30] at h
          refine hw_1 (fun k => x_icmp_ne (tgt := 35) dX34_give_30 (by decide) (fun z => absurd z c30) (fun _ => k)) ?_
          refine hw_1 (fun k => x_iconst dX34_give_33 (by decide) k) ?_
          obtain ⟨rfl, rfl⟩ := ga_end h
          exact hw_ret hP1 (x_iret dX34_give_34 rfl rfl trivial hq)
theorem h_X35_set_ok {G : aw_G} {D D' : ga_D} {r : Int} {x1 x2 : Int} (hP : h_P D) (h : h_X35_set x1 x2 D = some (r, D')) : aw_HR yX35_set cX35_set 3 none 0 G [(2, 5029), (0, x1), (0, x2)] D none D' := by
  unfold h_X35_set at h
  refine hw_body (own := "WasteHouse$DepositCodes$Bars") (ini := false) (ls := [(0, (2, 5029)), (1, (0, x1)), (2, (0, x2))]) rfl rfl (fun h => by cases h) (Nat.le_of_ble_eq_true rfl) rfl fun Q hq => ?_
  refine hw_1 (fun k => x_aload_n dX35_set_0 rfl k) ?_
  refine hw_1 (fun k => x_getf (v := 5030) dX35_set_1 fl_X35_9 (hkS (D := D) (show ga_K 5029 = (32, 0) from by decide +kernel) (by decide)) (hP.1 5029 0 5030 (by decide +kernel)) k) ?_
  refine hw_1 (fun k => x_iload_n dX35_set_4 rfl k) ?_
  refine hw_1 (fun k => x_iload_n dX35_set_5 rfl k) ?_
  replace h := ga_ck_some h; obtain ⟨hc6_0, h⟩ := h
  replace h := ga_let_some h; obtain ⟨D6, eD6, h⟩ := h
  refine hw_set eD6 (by decide) hc6_0.1 (fun k => x_iast dX35_set_6 (hkS (D := D) (show ga_K 5030 = (1000, 64) from by decide +kernel) (by decide)) (by decide) hc6_0.1 hc6_0.2 k) ?_
  have hP6 : h_P D6 := hP.set eD6 (by decide) hc6_0.1 (hPn (hkS (D := D) (show ga_K 5030 = (1000, 64) from by decide +kernel) (by decide)) rfl)
  have hE6 : h_E D D6 := h_E_set eD6 hc6_0.1
  obtain ⟨rfl, rfl⟩ := ga_end h
  exact hw_ret hP6 (x_vret dX35_set_7 rfl hq)
theorem h_X34_width_ok {G : aw_G} {D D' : ga_D} {r : Int} {x1 x2 : Int} (hP : h_P D) (h : h_X34_width x1 x2 D = some (r, D')) : aw_HR yX34_width cX34_width 3 (some (.boolean)) 1 G [(2, 5028), (0, x1), (0, x2)] D (some (0, r)) D' := by
  unfold h_X34_width at h
  refine hw_body (own := "WasteHouse$DepositCodes") (ini := false) (ls := [(0, (2, 5028)), (1, (0, x1)), (2, (0, x2))]) rfl rfl (fun h => by cases h) (Nat.le_of_ble_eq_true rfl) rfl fun Q hq => ?_
  refine hw_1 (fun k => x_iload_n dX34_width_0 rfl k) ?_
  by_cases c1 : x1 < 0
  · rw [if_pos c1] at h
    refine hw_1 (fun k => x_if_lt (tgt := 21) dX34_width_1 (by decide) (fun _ => k) (fun z => absurd c1 z)) ?_
    refine hw_1 (fun k => x_iconst dX34_width_21 (by decide) k) ?_
    obtain ⟨rfl, rfl⟩ := ga_end h
    exact hw_ret hP (x_iret dX34_width_22 rfl rfl (show (0 : Int) ≤ 0 ∧ (0 : Int) < 2 from by decide) hq)
  · rw [if_neg c1] at h
    refine hw_1 (fun k => x_if_lt (tgt := 21) dX34_width_1 (by decide) (fun z => absurd z c1) (fun _ => k)) ?_
    refine hw_1 (fun k => x_iload_n dX34_width_4 rfl k) ?_
    refine hw_1 (fun k => x_bipush dX34_width_5 (by decide) k) ?_
    by_cases c7 : 64 ≤ x1
    · rw [if_pos c7] at h
      refine hw_1 (fun k => x_icmp_ge (tgt := 21) dX34_width_7 (by decide) (fun _ => k) (fun z => absurd c7 z)) ?_
      refine hw_1 (fun k => x_iconst dX34_width_21 (by decide) k) ?_
      obtain ⟨rfl, rfl⟩ := ga_end h
      exact hw_ret hP (x_iret dX34_width_22 rfl rfl (show (0 : Int) ≤ 0 ∧ (0 : Int) < 2 from by decide) hq)
    · rw [if_neg c7] at h
      refine hw_1 (fun k => x_icmp_ge (tgt := 21) dX34_width_7 (by decide) (fun z => absurd z c7) (fun _ => k)) ?_
      refine hw_1 (fun k => x_iload_n dX34_width_10 rfl k) ?_
      by_cases c11 : x2 < 0
      · rw [if_pos c11] at h
        refine hw_1 (fun k => x_if_lt (tgt := 21) dX34_width_11 (by decide) (fun _ => k) (fun z => absurd c11 z)) ?_
        refine hw_1 (fun k => x_iconst dX34_width_21 (by decide) k) ?_
        obtain ⟨rfl, rfl⟩ := ga_end h
        exact hw_ret hP (x_iret dX34_width_22 rfl rfl (show (0 : Int) ≤ 0 ∧ (0 : Int) < 2 from by decide) hq)
      · rw [if_neg c11] at h
        refine hw_1 (fun k => x_if_lt (tgt := 21) dX34_width_11 (by decide) (fun z => absurd z c11) (fun _ => k)) ?_
        refine hw_1 (fun k => x_iload_n dX34_width_14 rfl k) ?_
        refine hw_1 (fun k => x_sipush dX34_width_15 (by decide) k) ?_
        by_cases c18 : x2 ≤ 1000
        · rw [if_pos c18] at h
          refine hw_1 (fun k => x_icmp_le (tgt := 23) dX34_width_18 (by decide) (fun _ => k) (fun z => absurd c18 z)) ?_
          refine hw_1 (fun k => x_aload_n dX34_width_23 rfl k) ?_
          refine hw_1 (fun k => x_getf (v := 5029) dX34_width_24 fl_X34_10 (hkS (D := D) (show ga_K 5028 = (31, 0) from by decide +kernel) (by decide)) (hP.1 5028 0 5029 (by decide +kernel)) k) ?_
          refine hw_1 (fun k => x_iload_n dX34_width_27 rfl k) ?_
          refine hw_1 (fun k => x_iload_n dX34_width_28 rfl k) ?_
          replace h := ga_bind_some h; obtain ⟨r29, D29, g29, h⟩ := h
          have hR29 := (h_X35_set_ok (G := G) hP g29)
          obtain ⟨hP29, hE29, -⟩ := id hR29
          refine hw_call (rest := []) hR29 (fun hc hk9 => x_callV (as := [(0, x1), (0, x2)]) (rest := []) dX34_width_29 hc (lw_V q3459 q3460 q3461 q434 q3462) (hkS (D := D) (show ga_K 5029 = (32, 0) from by decide +kernel) (by decide)) rfl rfl (show _ ∧ _ ∧ _ ∧ _ = some 2 from by decide +kernel) (by decide) (by decide) rfl (Nat.le_of_ble_eq_true rfl) hk9 aw_nox) ?_
          refine hw_1 (fun k => x_iconst dX34_width_32 (by decide) k) ?_
          obtain ⟨rfl, rfl⟩ := ga_end h
          exact hw_ret hP29 (x_iret dX34_width_33 rfl rfl (show (0 : Int) ≤ 1 ∧ (1 : Int) < 2 from by decide) hq)
        · rw [if_neg c18] at h
          refine hw_1 (fun k => x_icmp_le (tgt := 23) dX34_width_18 (by decide) (fun z => absurd z c18) (fun _ => k)) ?_
          refine hw_1 (fun k => x_iconst dX34_width_21 (by decide) k) ?_
          obtain ⟨rfl, rfl⟩ := ga_end h
          exact hw_ret hP (x_iret dX34_width_22 rfl rfl (show (0 : Int) ≤ 0 ∧ (0 : Int) < 2 from by decide) hq)
theorem h_X35_at_ok {G : aw_G} {D D' : ga_D} {r : Int} {x1 : Int} (hP : h_P D) (h : h_X35_at x1 D = some (r, D')) : aw_HR yX35_at cX35_at 2 (some (.int)) 0 G [(2, 5029), (0, x1)] D (some (0, r)) D' := by
  unfold h_X35_at at h
  refine hw_body (own := "WasteHouse$DepositCodes$Bars") (ini := false) (ls := [(0, (2, 5029)), (1, (0, x1))]) rfl rfl (fun h => by cases h) (Nat.le_of_ble_eq_true rfl) rfl fun Q hq => ?_
  refine hw_1 (fun k => x_aload_n dX35_at_0 rfl k) ?_
  refine hw_1 (fun k => x_getf (v := 5030) dX35_at_1 fl_X35_9 (hkS (D := D) (show ga_K 5029 = (32, 0) from by decide +kernel) (by decide)) (hP.1 5029 0 5030 (by decide +kernel)) k) ?_
  refine hw_1 (fun k => x_aload_n dX35_at_4 rfl k) ?_
  refine hw_1 (fun k => x_getf (v := D 5029 3) dX35_at_5 fl_X35_22 (hkS (D := D) (show ga_K 5029 = (32, 0) from by decide +kernel) (by decide)) rfl k) ?_
  by_cases c8 : D 5029 3 = 0
  · rw [if_pos c8] at h
    refine hw_1 (fun k => x_if_eq (tgt := 22) dX35_at_8 (by decide) (fun _ => k) (fun z => absurd c8 z)) ?_
    refine hw_1 (fun k => x_iload_n dX35_at_22 rfl k) ?_
    replace h := ga_ck_some h; obtain ⟨hc23_0, h⟩ := h
    refine hw_1 (fun k => x_iald (v := D 5030 x1) dX35_at_23 (hkS (D := D) (show ga_K 5030 = (1000, 64) from by decide +kernel) (by decide)) hc23_0.1 hc23_0.2 rfl k) ?_
    obtain ⟨rfl, rfl⟩ := ga_end h
    exact hw_ret hP (x_iret dX35_at_24 rfl rfl trivial hq)
  · rw [if_neg c8] at h
    refine hw_1 (fun k => x_if_eq (tgt := 22) dX35_at_8 (by decide) (fun z => absurd z c8) (fun _ => k)) ?_
    refine hw_1 (fun k => x_aload_n dX35_at_11 rfl k) ?_
    refine hw_1 (fun k => x_getf (v := D 5029 4) dX35_at_12 fl_X35_26 (hkS (D := D) (show ga_K 5029 = (32, 0) from by decide +kernel) (by decide)) rfl k) ?_
    refine hw_1 (fun k => x_iconst dX35_at_15 (by decide) k) ?_
    refine hw_1 (fun k => x_isub dX35_at_16 rfl k) ?_
    refine hw_1 (fun k => x_iload_n dX35_at_17 rfl k) ?_
    refine hw_1 (fun k => x_isub dX35_at_18 rfl k) ?_
    refine hw_1 (fun k => x_goto (tgt := 23) dX35_at_19 (by decide) k) ?_
    replace h := ga_ck_some h; obtain ⟨hc23_0, h⟩ := h
    refine hw_1 (fun k => x_iald (v := D 5030 (aw_w32 ((aw_w32 ((D 5029 4) - 1)) - x1))) dX35_at_23 (hkS (D := D) (show ga_K 5030 = (1000, 64) from by decide +kernel) (by decide)) hc23_0.1 hc23_0.2 rfl k) ?_
    obtain ⟨rfl, rfl⟩ := ga_end h
    exact hw_ret hP (x_iret dX35_at_24 rfl rfl trivial hq)
theorem h_X35_isGuard_ok {G : aw_G} {D D' : ga_D} {r : Int} {x1 : Int} (hP : h_P D) (h : h_X35_isGuard x1 D = some (r, D')) : aw_HR yX35_isGuard cX35_isGuard 2 (some (.boolean)) 1 G [(2, 5029), (0, x1)] D (some (0, r)) D' := by
  unfold h_X35_isGuard at h
  refine hw_body (own := "WasteHouse$DepositCodes$Bars") (ini := false) (ls := [(0, (2, 5029)), (1, (0, x1))]) rfl rfl (fun h => by cases h) (Nat.le_of_ble_eq_true rfl) rfl fun Q hq => ?_
  refine hw_1 (fun k => x_aload_n dX35_isGuard_0 rfl k) ?_
  refine hw_1 (fun k => x_iload_n dX35_isGuard_1 rfl k) ?_
  replace h := ga_bind_some h; obtain ⟨r2, D2, g2, h⟩ := h
  have hR2 := (h_X35_at_ok (G := G) hP g2)
  obtain ⟨hP2, hE2, -⟩ := id hR2
  refine hw_call (rest := []) hR2 (fun hc hk9 => x_callV (as := [(0, x1)]) (rest := []) dX35_isGuard_2 hc (lw_V q3481 q3483 qs30 q434 q3484) (hkS (D := D) (show ga_K 5029 = (32, 0) from by decide +kernel) (by decide)) rfl rfl (show _ ∧ _ ∧ _ ∧ _ = some 1 from by decide +kernel) (by decide) (by decide) rfl (Nat.le_of_ble_eq_true rfl) hk9 aw_nox) ?_
  refine hw_1 (fun k => x_aload_n dX35_isGuard_5 rfl k) ?_
  refine hw_1 (fun k => x_iload_n dX35_isGuard_6 rfl k) ?_
  refine hw_1 (fun k => x_iconst dX35_isGuard_7 (by decide) k) ?_
  refine hw_1 (fun k => x_iadd dX35_isGuard_8 rfl k) ?_
  replace h := ga_bind_some h; obtain ⟨r9, D9, g9, h⟩ := h
  have hR9 := (h_X35_at_ok (G := G) hP2 g9)
  obtain ⟨hP9, hE9, -⟩ := id hR9
  refine hw_call (rest := [(0, r2)]) hR9 (fun hc hk9 => x_callV (as := [(0, aw_w32 (x1 + 1))]) (rest := [(0, r2)]) dX35_isGuard_9 hc (lw_V q3481 q3483 qs30 q434 q3484) (hkS (D := D2) (show ga_K 5029 = (32, 0) from by decide +kernel) (by decide)) rfl rfl (show _ ∧ _ ∧ _ ∧ _ = some 1 from by decide +kernel) (by decide) (by decide) rfl (Nat.le_of_ble_eq_true rfl) hk9 aw_nox) ?_
  by_cases c12 : r2 ≠ r9
  · rw [if_pos c12] at h
    refine hw_1 (fun k => x_icmp_ne (tgt := 34) dX35_isGuard_12 (by decide) (fun _ => k) (fun z => absurd c12 z)) ?_
    refine hw_1 (fun k => x_iconst dX35_isGuard_34 (by decide) k) ?_
    obtain ⟨rfl, rfl⟩ := ga_end h
    exact hw_ret hP9 (x_iret dX35_isGuard_35 rfl rfl (show (0 : Int) ≤ 0 ∧ (0 : Int) < 2 from by decide) hq)
  · rw [if_neg c12] at h
    refine hw_1 (fun k => x_icmp_ne (tgt := 34) dX35_isGuard_12 (by decide) (fun z => absurd z c12) (fun _ => k)) ?_
    refine hw_1 (fun k => x_aload_n dX35_isGuard_15 rfl k) ?_
    refine hw_1 (fun k => x_iload_n dX35_isGuard_16 rfl k) ?_
    replace h := ga_bind_some h; obtain ⟨r17, D17, g17, h⟩ := h
    have hR17 := (h_X35_at_ok (G := G) hP9 g17)
    obtain ⟨hP17, hE17, -⟩ := id hR17
    refine hw_call (rest := []) hR17 (fun hc hk9 => x_callV (as := [(0, x1)]) (rest := []) dX35_isGuard_17 hc (lw_V q3481 q3483 qs30 q434 q3484) (hkS (D := D9) (show ga_K 5029 = (32, 0) from by decide +kernel) (by decide)) rfl rfl (show _ ∧ _ ∧ _ ∧ _ = some 1 from by decide +kernel) (by decide) (by decide) rfl (Nat.le_of_ble_eq_true rfl) hk9 aw_nox) ?_
    refine hw_1 (fun k => x_aload_n dX35_isGuard_20 rfl k) ?_
    refine hw_1 (fun k => x_iload_n dX35_isGuard_21 rfl k) ?_
    refine hw_1 (fun k => x_iconst dX35_isGuard_22 (by decide) k) ?_
    refine hw_1 (fun k => x_iadd dX35_isGuard_23 rfl k) ?_
    replace h := ga_bind_some h; obtain ⟨r24, D24, g24, h⟩ := h
    have hR24 := (h_X35_at_ok (G := G) hP17 g24)
    obtain ⟨hP24, hE24, -⟩ := id hR24
    refine hw_call (rest := [(0, r17)]) hR24 (fun hc hk9 => x_callV (as := [(0, aw_w32 (x1 + 2))]) (rest := [(0, r17)]) dX35_isGuard_24 hc (lw_V q3481 q3483 qs30 q434 q3484) (hkS (D := D17) (show ga_K 5029 = (32, 0) from by decide +kernel) (by decide)) rfl rfl (show _ ∧ _ ∧ _ ∧ _ = some 1 from by decide +kernel) (by decide) (by decide) rfl (Nat.le_of_ble_eq_true rfl) hk9 aw_nox) ?_
    by_cases c27 : r17 ≠ r24
    · rw [if_pos c27] at h
      refine hw_1 (fun k => x_icmp_ne (tgt := 34) dX35_isGuard_27 (by decide) (fun _ => k) (fun z => absurd c27 z)) ?_
      refine hw_1 (fun k => x_iconst dX35_isGuard_34 (by decide) k) ?_
      obtain ⟨rfl, rfl⟩ := ga_end h
      exact hw_ret hP24 (x_iret dX35_isGuard_35 rfl rfl (show (0 : Int) ≤ 0 ∧ (0 : Int) < 2 from by decide) hq)
    · rw [if_neg c27] at h
      refine hw_1 (fun k => x_icmp_ne (tgt := 34) dX35_isGuard_27 (by decide) (fun z => absurd z c27) (fun _ => k)) ?_
      refine hw_1 (fun k => x_iconst dX35_isGuard_30 (by decide) k) ?_
      refine hw_1 (fun k => x_goto (tgt := 35) dX35_isGuard_31 (by decide) k) ?_
      obtain ⟨rfl, rfl⟩ := ga_end h
      exact hw_ret hP24 (x_iret dX35_isGuard_35 rfl rfl (show (0 : Int) ≤ 1 ∧ (1 : Int) < 2 from by decide) hq)
theorem h_X35_digit_l4_ok {G : aw_G} {M0 : aw_M} {D' : ga_D} {Q : Option aw_V → aw_M → Prop} {r : Int} (hq : Q (some (0, r)) (hM D')) {k25 : Int → Int → ga_D → ga_S} (hk25 : ∀ (x1 x2 : Int) (D : ga_D), h_P D → k25 x1 x2 D = some (r, D') → aw_HW G "WasteHouse$DepositCodes$Bars" cX35_digit (some (.int)) 6 1 false M0 Q aw_no D' (hn D') (hsl D') 25 [(0, (2, 5029)), (1, (0, x1)), (2, (0, x2))] [] D) : ∀ {n : Nat} {x1 x2 x3 : Int} {D : ga_D}, h_P D → h_X35_digit_l4 n x1 x2 x3 D k25 = some (r, D') → aw_HW G "WasteHouse$DepositCodes$Bars" cX35_digit (some (.int)) 6 1 false M0 Q aw_no D' (hn D') (hsl D') 4 [(0, (2, 5029)), (1, (0, x1)), (2, (0, x2)), (3, (0, x3))] [] D := by
  intro n
  induction n with
  | zero => intro x1 x2 x3 D hP h; exact absurd (h : (none : ga_S) = some (r, D')) (by intro h; cases h)
  | succ n ih =>
    intro x1 x2 x3 D hP h
    have ih : ∀ (x1 x2 x3 : Int) (D : ga_D), h_P D → h_X35_digit_l4 n x1 x2 x3 D k25 = some (r, D') → aw_HW G "WasteHouse$DepositCodes$Bars" cX35_digit (some (.int)) 6 1 false M0 Q aw_no D' (hn D') (hsl D') 4 [(0, (2, 5029)), (1, (0, x1)), (2, (0, x2)), (3, (0, x3))] [] D := fun x1 x2 x3 D hP h => ih hP h
    replace h : (if 4 ≤ x3 then (k25 x1 x2 D) else (ga_bind (h_X35_at (aw_w32 (x1 + x3)) D) (fun r14 D14 => ga_let (aw_w32 (x2 + r14)) (fun v18 => ga_let (aw_w32 (x3 + 1)) (fun v19 => h_X35_digit_l4 n x1 v18 v19 D14 k25)))) : ga_S) = some (r, D') := h
    refine hw_1 (fun k => x_iload_n dX35_digit_4 rfl k) ?_
    refine hw_1 (fun k => x_iconst dX35_digit_5 (by decide) k) ?_
    by_cases c6 : 4 ≤ x3
    · rw [if_pos c6] at h
      refine hw_1 (fun k => x_icmp_ge (tgt := 25) dX35_digit_6 (by decide) (fun _ => k) (fun z => absurd c6 z)) ?_
      refine hw_locs [0, 1, 2] (ls' := [(0, (2, 5029)), (1, (0, x1)), (2, (0, x2))]) rfl ?_
      exact hk25 _ _ _ hP h
    · rw [if_neg c6] at h
      refine hw_1 (fun k => x_icmp_ge (tgt := 25) dX35_digit_6 (by decide) (fun z => absurd z c6) (fun _ => k)) ?_
      refine hw_1 (fun k => x_iload_n dX35_digit_9 rfl k) ?_
      refine hw_1 (fun k => x_aload_n dX35_digit_10 rfl k) ?_
      refine hw_1 (fun k => x_iload_n dX35_digit_11 rfl k) ?_
      refine hw_1 (fun k => x_iload_n dX35_digit_12 rfl k) ?_
      refine hw_1 (fun k => x_iadd dX35_digit_13 rfl k) ?_
      replace h := ga_bind_some h; obtain ⟨r14, D14, g14, h⟩ := h
      have hR14 := (h_X35_at_ok (G := G) hP g14)
      obtain ⟨hP14, hE14, -⟩ := id hR14
      refine hw_call (rest := [(0, x2)]) hR14 (fun hc hk9 => x_callV (as := [(0, aw_w32 (x1 + x3))]) (rest := [(0, x2)]) dX35_digit_14 hc (lw_V q3481 q3483 qs30 q434 q3484) (hkS (D := D) (show ga_K 5029 = (32, 0) from by decide +kernel) (by decide)) rfl rfl (show _ ∧ _ ∧ _ ∧ _ = some 1 from by decide +kernel) (by decide) (by decide) rfl (Nat.le_of_ble_eq_true rfl) hk9 aw_nox) ?_
      refine hw_1 (fun k => x_iadd dX35_digit_17 rfl k) ?_
      replace h := ga_let_some h; obtain ⟨v18, ev18, h⟩ := h
      refine hw_nm ev18 ?_
      refine hw_1 (fun k => x_istore_n (ls' := [(2, (0, v18)), (0, (2, 5029)), (1, (0, x1)), (3, (0, x3))]) dX35_digit_18 (by decide) rfl k) ?_
      replace h := ga_let_some h; obtain ⟨v19, ev19, h⟩ := h
      refine hw_1 (fun k => x_iinc (ls' := [(3, (0, v19)), (2, (0, v18)), (0, (2, 5029)), (1, (0, x1))]) dX35_digit_19 rfl ev19.symm (by decide) rfl k) ?_
      refine hw_1 (fun k => x_goto (tgt := 4) dX35_digit_22 (by decide) k) ?_
      refine hw_locs [2, 3, 1, 0] (ls' := [(0, (2, 5029)), (1, (0, x1)), (2, (0, v18)), (3, (0, v19))]) rfl ?_
      exact ih _ _ _ _ hP14 h
theorem h_X35_digit_l30_ok {G : aw_G} {M0 : aw_M} {D' : ga_D} {Q : Option aw_V → aw_M → Prop} {r : Int} (hq : Q (some (0, r)) (hM D')) {k56 : ga_D → ga_S} {k74 : Int → ga_D → ga_S} (hk56 : ∀ (D : ga_D), h_P D → k56 D = some (r, D') → aw_HW G "WasteHouse$DepositCodes$Bars" cX35_digit (some (.int)) 6 1 false M0 Q aw_no D' (hn D') (hsl D') 56 [] [] D) (hk74 : ∀ (x3 : Int) (D : ga_D), h_P D → k74 x3 D = some (r, D') → aw_HW G "WasteHouse$DepositCodes$Bars" cX35_digit (some (.int)) 6 1 false M0 Q aw_no D' (hn D') (hsl D') 74 [(3, (0, x3))] [] D) : ∀ {n : Nat} {x1 x2 x3 x4 : Int} {D : ga_D}, h_P D → h_X35_digit_l30 n x1 x2 x3 x4 D k56 k74 = some (r, D') → aw_HW G "WasteHouse$DepositCodes$Bars" cX35_digit (some (.int)) 6 1 false M0 Q aw_no D' (hn D') (hsl D') 30 [(0, (2, 5029)), (1, (0, x1)), (2, (0, x2)), (3, (0, x3)), (4, (0, x4))] [] D := by
  intro n
  induction n with
  | zero => intro x1 x2 x3 x4 D hP h; exact absurd (h : (none : ga_S) = some (r, D')) (by intro h; cases h)
  | succ n ih =>
    intro x1 x2 x3 x4 D hP h
    have ih : ∀ (x1 x2 x3 x4 : Int) (D : ga_D), h_P D → h_X35_digit_l30 n x1 x2 x3 x4 D k56 k74 = some (r, D') → aw_HW G "WasteHouse$DepositCodes$Bars" cX35_digit (some (.int)) 6 1 false M0 Q aw_no D' (hn D') (hsl D') 30 [(0, (2, 5029)), (1, (0, x1)), (2, (0, x2)), (3, (0, x3)), (4, (0, x4))] [] D := fun x1 x2 x3 x4 D hP h => ih hP h
    replace h : (if 4 ≤ x4 then (k74 x3 D) else (ga_bind (h_X35_at (aw_w32 (x1 + x4)) D) (fun r43 D43 => ga_let (aw_w32 (7 * r43)) (fun v47 => ga_ck (x2 ≠ 0) (if Int.tmod v47 x2 = 0 then (ga_ck (x2 ≠ 0) (ga_let (aw_w32 ((aw_w32 (10 * x3)) + (aw_w32 (Int.tdiv v47 x2)))) (fun v67 => ga_let (aw_w32 (x4 + 1)) (fun v68 => h_X35_digit_l30 n x1 x2 v67 v68 D43 k56 k74)))) else (k56 D43))))) : ga_S) = some (r, D') := h
    refine hw_1 (fun k => x_iload dX35_digit_30 rfl k) ?_
    refine hw_1 (fun k => x_iconst dX35_digit_32 (by decide) k) ?_
    by_cases c33 : 4 ≤ x4
    · rw [if_pos c33] at h
      refine hw_1 (fun k => x_icmp_ge (tgt := 74) dX35_digit_33 (by decide) (fun _ => k) (fun z => absurd c33 z)) ?_
      refine hw_locs [3] (ls' := [(3, (0, x3))]) rfl ?_
      exact hk74 _ _ hP h
    · rw [if_neg c33] at h
      refine hw_1 (fun k => x_icmp_ge (tgt := 74) dX35_digit_33 (by decide) (fun z => absurd z c33) (fun _ => k)) ?_
      refine hw_1 (fun k => x_bipush dX35_digit_36 (by decide) k) ?_
      refine hw_1 (fun k => x_aload_n dX35_digit_38 rfl k) ?_
      refine hw_1 (fun k => x_iload_n dX35_digit_39 rfl k) ?_
      refine hw_1 (fun k => x_iload dX35_digit_40 rfl k) ?_
      refine hw_1 (fun k => x_iadd dX35_digit_42 rfl k) ?_
      replace h := ga_bind_some h; obtain ⟨r43, D43, g43, h⟩ := h
      have hR43 := (h_X35_at_ok (G := G) hP g43)
      obtain ⟨hP43, hE43, -⟩ := id hR43
      refine hw_call (rest := [(0, 7)]) hR43 (fun hc hk9 => x_callV (as := [(0, aw_w32 (x1 + x4))]) (rest := [(0, 7)]) dX35_digit_43 hc (lw_V q3481 q3483 qs30 q434 q3484) (hkS (D := D) (show ga_K 5029 = (32, 0) from by decide +kernel) (by decide)) rfl rfl (show _ ∧ _ ∧ _ ∧ _ = some 1 from by decide +kernel) (by decide) (by decide) rfl (Nat.le_of_ble_eq_true rfl) hk9 aw_nox) ?_
      refine hw_1 (fun k => x_imul dX35_digit_46 rfl k) ?_
      replace h := ga_let_some h; obtain ⟨v47, ev47, h⟩ := h
      refine hw_nm ev47 ?_
      refine hw_1 (fun k => x_istore (ls' := [(5, (0, v47)), (0, (2, 5029)), (1, (0, x1)), (2, (0, x2)), (3, (0, x3)), (4, (0, x4))]) dX35_digit_47 (by decide) rfl k) ?_
      refine hw_1 (fun k => x_iload dX35_digit_49 rfl k) ?_
      refine hw_1 (fun k => x_iload_n dX35_digit_51 rfl k) ?_
      replace h := ga_ck_some h; obtain ⟨hc52_0, h⟩ := h
      refine hw_1 (fun k => x_irem dX35_digit_52 hc52_0 rfl k) ?_
      by_cases c53 : Int.tmod v47 x2 = 0
      · rw [if_pos c53] at h
        refine hw_1 (fun k => x_if_eq (tgt := 58) dX35_digit_53 (by decide) (fun _ => k) (fun z => absurd c53 z)) ?_
        refine hw_1 (fun k => x_bipush dX35_digit_58 (by decide) k) ?_
        refine hw_1 (fun k => x_iload_n dX35_digit_60 rfl k) ?_
        refine hw_1 (fun k => x_imul dX35_digit_61 rfl k) ?_
        refine hw_1 (fun k => x_iload dX35_digit_62 rfl k) ?_
        refine hw_1 (fun k => x_iload_n dX35_digit_64 rfl k) ?_
        replace h := ga_ck_some h; obtain ⟨hc65_0, h⟩ := h
        refine hw_1 (fun k => x_idiv dX35_digit_65 hc65_0 rfl k) ?_
        refine hw_1 (fun k => x_iadd dX35_digit_66 rfl k) ?_
        replace h := ga_let_some h; obtain ⟨v67, ev67, h⟩ := h
        refine hw_nm ev67 ?_
        refine hw_1 (fun k => x_istore_n (ls' := [(3, (0, v67)), (5, (0, v47)), (0, (2, 5029)), (1, (0, x1)), (2, (0, x2)), (4, (0, x4))]) dX35_digit_67 (by decide) rfl k) ?_
        replace h := ga_let_some h; obtain ⟨v68, ev68, h⟩ := h
        refine hw_1 (fun k => x_iinc (ls' := [(4, (0, v68)), (3, (0, v67)), (5, (0, v47)), (0, (2, 5029)), (1, (0, x1)), (2, (0, x2))]) dX35_digit_68 rfl ev68.symm (by decide) rfl k) ?_
        refine hw_1 (fun k => x_goto (tgt := 30) dX35_digit_71 (by decide) k) ?_
        refine hw_locs [3, 4, 5, 1, 0] (ls' := [(0, (2, 5029)), (1, (0, x1)), (2, (0, x2)), (3, (0, v67)), (4, (0, v68))]) rfl ?_
        exact ih _ _ _ _ _ hP43 h
      · rw [if_neg c53] at h
        refine hw_1 (fun k => x_if_eq (tgt := 58) dX35_digit_53 (by decide) (fun z => absurd z c53) (fun _ => k)) ?_
        refine hw_locs [] (ls' := []) rfl ?_
        exact hk56 _ hP43 h
theorem h_X35_digit_l82_ok {G : aw_G} {M0 : aw_M} {D' : ga_D} {Q : Option aw_V → aw_M → Prop} {r : Int} (hq : Q (some (0, r)) (hM D')) {k103 : Int → ga_D → ga_S} (hk103 : ∀ (x4 : Int) (D : ga_D), h_P D → k103 x4 D = some (r, D') → aw_HW G "WasteHouse$DepositCodes$Bars" cX35_digit (some (.int)) 6 1 false M0 Q aw_no D' (hn D') (hsl D') 103 [(4, (0, x4))] [] D) : ∀ {n : Nat} {x3 x4 : Int} {D : ga_D}, h_P D → h_X35_digit_l82 n x3 x4 D k103 = some (r, D') → aw_HW G "WasteHouse$DepositCodes$Bars" cX35_digit (some (.int)) 6 1 false M0 Q aw_no D' (hn D') (hsl D') 82 [(3, (0, x3)), (4, (0, x4))] [] D := by
  intro n
  induction n with
  | zero => intro x3 x4 D hP h; exact absurd (h : (none : ga_S) = some (r, D')) (by intro h; cases h)
  | succ n ih =>
    intro x3 x4 D hP h
    have ih : ∀ (x3 x4 : Int) (D : ga_D), h_P D → h_X35_digit_l82 n x3 x4 D k103 = some (r, D') → aw_HW G "WasteHouse$DepositCodes$Bars" cX35_digit (some (.int)) 6 1 false M0 Q aw_no D' (hn D') (hsl D') 82 [(3, (0, x3)), (4, (0, x4))] [] D := fun x3 x4 D hP h => ih hP h
    replace h : (if x4 < 0 then (k103 x4 D) else (ga_ck (0 ≤ x4 ∧ x4 < 10) (if D 154 x4 = x3 then (k103 x4 D) else (ga_let (aw_w32 (x4 + (-1))) (fun v97 => h_X35_digit_l82 n x3 v97 D k103)))) : ga_S) = some (r, D') := h
    refine hw_1 (fun k => x_iload dX35_digit_82 rfl k) ?_
    by_cases c84 : x4 < 0
    · rw [if_pos c84] at h
      refine hw_1 (fun k => x_if_lt (tgt := 103) dX35_digit_84 (by decide) (fun _ => k) (fun z => absurd c84 z)) ?_
      refine hw_locs [1] (ls' := [(4, (0, x4))]) rfl ?_
      exact hk103 _ _ hP h
    · rw [if_neg c84] at h
      refine hw_1 (fun k => x_if_lt (tgt := 103) dX35_digit_84 (by decide) (fun z => absurd z c84) (fun _ => k)) ?_
      refine hw_1 (fun k => x_gets (tg := 2) (z := 154) dX35_digit_87 q3489 (by decide +kernel) k) ?_
      refine hw_1 (fun k => x_iload dX35_digit_90 rfl k) ?_
      replace h := ga_ck_some h; obtain ⟨hc92_0, h⟩ := h
      refine hw_1 (fun k => x_iald (v := D 154 x4) dX35_digit_92 (hkS (D := D) (show ga_K 154 = (1000, 10) from by decide +kernel) (by decide)) hc92_0.1 hc92_0.2 rfl k) ?_
      refine hw_1 (fun k => x_iload_n dX35_digit_93 rfl k) ?_
      by_cases c94 : D 154 x4 = x3
      · rw [if_pos c94] at h
        refine hw_1 (fun k => x_icmp_eq (tgt := 103) dX35_digit_94 (by decide) (fun _ => k) (fun z => absurd c94 z)) ?_
        refine hw_locs [1] (ls' := [(4, (0, x4))]) rfl ?_
        exact hk103 _ _ hP h
      · rw [if_neg c94] at h
        refine hw_1 (fun k => x_icmp_eq (tgt := 103) dX35_digit_94 (by decide) (fun z => absurd z c94) (fun _ => k)) ?_
        replace h := ga_let_some h; obtain ⟨v97, ev97, h⟩ := h
        refine hw_1 (fun k => x_iinc (ls' := [(4, (0, v97)), (3, (0, x3))]) dX35_digit_97 rfl ev97.symm (by decide) rfl k) ?_
        refine hw_1 (fun k => x_goto (tgt := 82) dX35_digit_100 (by decide) k) ?_
        refine hw_locs [1, 0] (ls' := [(3, (0, x3)), (4, (0, v97))]) rfl ?_
        exact ih _ _ _ hP h
theorem h_X35_digit_ok {G : aw_G} {D D' : ga_D} {r : Int} {x1 : Int} (hP : h_P D) (h : h_X35_digit x1 D = some (r, D')) : aw_HR yX35_digit cX35_digit 6 (some (.int)) 1 G [(2, 5029), (0, x1)] D (some (0, r)) D' := by
  unfold h_X35_digit at h
  refine hw_body (own := "WasteHouse$DepositCodes$Bars") (ini := false) (ls := [(0, (2, 5029)), (1, (0, x1))]) rfl rfl (fun h => by cases h) (Nat.le_of_ble_eq_true rfl) rfl fun Q hq => ?_
  refine hw_1 (fun k => x_iconst dX35_digit_0 (by decide) k) ?_
  refine hw_1 (fun k => x_istore_n (ls' := [(2, (0, 0)), (0, (2, 5029)), (1, (0, x1))]) dX35_digit_1 (by decide) rfl k) ?_
  refine hw_1 (fun k => x_iconst dX35_digit_2 (by decide) k) ?_
  refine hw_1 (fun k => x_istore_n (ls' := [(3, (0, 0)), (2, (0, 0)), (0, (2, 5029)), (1, (0, x1))]) dX35_digit_3 (by decide) rfl k) ?_
  refine hw_locs [2, 3, 1, 0] (ls' := [(0, (2, 5029)), (1, (0, x1)), (2, (0, 0)), (3, (0, 0))]) rfl ?_
  refine h_X35_digit_l4_ok hq (fun x1 x2 D25 hP h => ?_) hP h
  · refine hw_1 (fun k => x_iconst dX35_digit_25 (by decide) k) ?_
    refine hw_1 (fun k => x_istore_n (ls' := [(3, (0, 0)), (0, (2, 5029)), (1, (0, x1)), (2, (0, x2))]) dX35_digit_26 (by decide) rfl k) ?_
    refine hw_1 (fun k => x_iconst dX35_digit_27 (by decide) k) ?_
    refine hw_1 (fun k => x_istore (ls' := [(4, (0, 0)), (3, (0, 0)), (0, (2, 5029)), (1, (0, x1)), (2, (0, x2))]) dX35_digit_28 (by decide) rfl k) ?_
    refine hw_locs [2, 3, 4, 1, 0] (ls' := [(0, (2, 5029)), (1, (0, x1)), (2, (0, x2)), (3, (0, 0)), (4, (0, 0))]) rfl ?_
    refine h_X35_digit_l30_ok hq (fun D56 hP h => ?_) (fun x3 D74 hP h => ?_) hP h
    · refine hw_1 (fun k => x_iconst dX35_digit_56 (by decide) k) ?_
      obtain ⟨rfl, rfl⟩ := ga_end h
      exact hw_ret hP (x_iret dX35_digit_57 rfl rfl trivial hq)
    · refine hw_1 (fun k => x_gets (tg := 2) (z := 154) dX35_digit_74 q3489 (by decide +kernel) k) ?_
      refine hw_1 (fun k => x_alen (t := 0) dX35_digit_77 (hkS (D := D74) (show ga_K 154 = (1000, 10) from by decide +kernel) (by decide)) rfl k) ?_
      refine hw_1 (fun k => x_iconst dX35_digit_78 (by decide) k) ?_
      refine hw_1 (fun k => x_isub dX35_digit_79 rfl k) ?_
      replace h := ga_let_some h; obtain ⟨v80, ev80, h⟩ := h
      refine hw_nm ev80 ?_
      refine hw_1 (fun k => x_istore (ls' := [(4, (0, v80)), (3, (0, x3))]) dX35_digit_80 (by decide) rfl k) ?_
      refine hw_locs [1, 0] (ls' := [(3, (0, x3)), (4, (0, v80))]) rfl ?_
      refine h_X35_digit_l82_ok hq (fun x4 D103 hP h => ?_) hP h
      · refine hw_1 (fun k => x_iload dX35_digit_103 rfl k) ?_
        obtain ⟨rfl, rfl⟩ := ga_end h
        exact hw_ret hP (x_iret dX35_digit_105 rfl rfl trivial hq)
theorem h_X35_one_l54_ok {G : aw_G} {M0 : aw_M} {D' : ga_D} {Q : Option aw_V → aw_M → Prop} {r : Int} (hq : Q (some (0, r)) (hM D')) {k78 : ga_D → ga_S} {k96 : Int → ga_D → ga_S} (hk78 : ∀ (D : ga_D), h_P D → k78 D = some (r, D') → aw_HW G "WasteHouse$DepositCodes$Bars" cX35_one (some (.int)) 6 2 false M0 Q aw_no D' (hn D') (hsl D') 78 [] [] D) (hk96 : ∀ (x3 : Int) (D : ga_D), h_P D → k96 x3 D = some (r, D') → aw_HW G "WasteHouse$DepositCodes$Bars" cX35_one (some (.int)) 6 2 false M0 Q aw_no D' (hn D') (hsl D') 96 [(3, (0, x3))] [] D) : ∀ {n : Nat} {x3 x4 : Int} {D : ga_D}, h_P D → h_X35_one_l54 n x3 x4 D k78 k96 = some (r, D') → aw_HW G "WasteHouse$DepositCodes$Bars" cX35_one (some (.int)) 6 2 false M0 Q aw_no D' (hn D') (hsl D') 54 [(0, (2, 5029)), (3, (0, x3)), (4, (0, x4))] [] D := by
  intro n
  induction n with
  | zero => intro x3 x4 D hP h; exact absurd (h : (none : ga_S) = some (r, D')) (by intro h; cases h)
  | succ n ih =>
    intro x3 x4 D hP h
    have ih : ∀ (x3 x4 : Int) (D : ga_D), h_P D → h_X35_one_l54 n x3 x4 D k78 k96 = some (r, D') → aw_HW G "WasteHouse$DepositCodes$Bars" cX35_one (some (.int)) 6 2 false M0 Q aw_no D' (hn D') (hsl D') 54 [(0, (2, 5029)), (3, (0, x3)), (4, (0, x4))] [] D := fun x3 x4 D hP h => ih hP h
    replace h : (if x3 ≤ x4 then (k96 x3 D) else (ga_bind (h_X35_digit (aw_w32 (3 + (aw_w32 (4 * x4)))) D) (fun r67 D67 => if r67 ≠ (-1) then (ga_ck (0 ≤ x4 ∧ x4 < 16 ∧ (-128) ≤ aw_i2b r67 ∧ aw_i2b r67 < 128) (ga_let (ga_set D67 5031 x4 (aw_i2b r67)) (fun D89 => ga_let (aw_w32 (x4 + 1)) (fun v90 => h_X35_one_l54 n x3 v90 D89 k78 k96)))) else (k78 D67))) : ga_S) = some (r, D') := h
    refine hw_1 (fun k => x_iload dX35_one_54 rfl k) ?_
    refine hw_1 (fun k => x_iload_n dX35_one_56 rfl k) ?_
    by_cases c57 : x3 ≤ x4
    · rw [if_pos c57] at h
      refine hw_1 (fun k => x_icmp_ge (tgt := 96) dX35_one_57 (by decide) (fun _ => k) (fun z => absurd c57 z)) ?_
      refine hw_locs [1] (ls' := [(3, (0, x3))]) rfl ?_
      exact hk96 _ _ hP h
    · rw [if_neg c57] at h
      refine hw_1 (fun k => x_icmp_ge (tgt := 96) dX35_one_57 (by decide) (fun z => absurd z c57) (fun _ => k)) ?_
      refine hw_1 (fun k => x_aload_n dX35_one_60 rfl k) ?_
      refine hw_1 (fun k => x_iconst dX35_one_61 (by decide) k) ?_
      refine hw_1 (fun k => x_iconst dX35_one_62 (by decide) k) ?_
      refine hw_1 (fun k => x_iload dX35_one_63 rfl k) ?_
      refine hw_1 (fun k => x_imul dX35_one_65 rfl k) ?_
      refine hw_1 (fun k => x_iadd dX35_one_66 rfl k) ?_
      replace h := ga_bind_some h; obtain ⟨r67, D67, g67, h⟩ := h
      have hR67 := (h_X35_digit_ok (G := G) hP g67)
      obtain ⟨hP67, hE67, -⟩ := id hR67
      refine hw_call (rest := []) hR67 (fun hc hk9 => x_callV (as := [(0, aw_w32 (3 + (aw_w32 (4 * x4))))]) (rest := []) dX35_one_67 hc (lw_V q3485 q3487 qs31 q434 q3488) (hkS (D := D) (show ga_K 5029 = (32, 0) from by decide +kernel) (by decide)) rfl rfl (show _ ∧ _ ∧ _ ∧ _ = some 1 from by decide +kernel) (by decide) (by decide) rfl (Nat.le_of_ble_eq_true rfl) hk9 aw_nox) ?_
      refine hw_1 (fun k => x_istore (ls' := [(5, (0, r67)), (0, (2, 5029)), (3, (0, x3)), (4, (0, x4))]) dX35_one_70 (by decide) rfl k) ?_
      refine hw_1 (fun k => x_iload dX35_one_72 rfl k) ?_
      refine hw_1 (fun k => x_iconst dX35_one_74 (by decide) k) ?_
      by_cases c75 : r67 ≠ (-1)
      · rw [if_pos c75] at h
        refine hw_1 (fun k => x_icmp_ne (tgt := 80) dX35_one_75 (by decide) (fun _ => k) (fun z => absurd c75 z)) ?_
        refine hw_1 (fun k => x_aload_n dX35_one_80 rfl k) ?_
        refine hw_1 (fun k => x_getf (v := 5031) dX35_one_81 fl_X35_15 (hkS (D := D67) (show ga_K 5029 = (32, 0) from by decide +kernel) (by decide)) (hP67.1 5029 1 5031 (by decide +kernel)) k) ?_
        refine hw_1 (fun k => x_iload dX35_one_84 rfl k) ?_
        refine hw_1 (fun k => x_iload dX35_one_86 rfl k) ?_
        refine hw_1 (fun k => x_i2b dX35_one_88 rfl k) ?_
        replace h := ga_ck_some h; obtain ⟨hc89_0, h⟩ := h
        replace h := ga_let_some h; obtain ⟨D89, eD89, h⟩ := h
        refine hw_set eD89 (by decide) hc89_0.1 (fun k => x_bast dX35_one_89 (hkS (D := D67) (show ga_K 5031 = (1002, 16) from by decide +kernel) (by decide)) (by decide) hc89_0.1 hc89_0.2.1 hc89_0.2.2 k) ?_
        have hP89 : h_P D89 := hP67.set eD89 (by decide) hc89_0.1 (hPn (hkS (D := D67) (show ga_K 5031 = (1002, 16) from by decide +kernel) (by decide)) rfl)
        have hE89 : h_E D67 D89 := h_E_set eD89 hc89_0.1
        replace h := ga_let_some h; obtain ⟨v90, ev90, h⟩ := h
        refine hw_1 (fun k => x_iinc (ls' := [(4, (0, v90)), (5, (0, r67)), (0, (2, 5029)), (3, (0, x3))]) dX35_one_90 rfl ev90.symm (by decide) rfl k) ?_
        refine hw_1 (fun k => x_goto (tgt := 54) dX35_one_93 (by decide) k) ?_
        refine hw_locs [2, 3, 0] (ls' := [(0, (2, 5029)), (3, (0, x3)), (4, (0, v90))]) rfl ?_
        exact ih _ _ _ hP89 h
      · rw [if_neg c75] at h
        refine hw_1 (fun k => x_icmp_ne (tgt := 80) dX35_one_75 (by decide) (fun z => absurd z c75) (fun _ => k)) ?_
        refine hw_locs [] (ls' := []) rfl ?_
        exact hk78 _ hP67 h
theorem h_X35_one_ok {G : aw_G} {D D' : ga_D} {r : Int} {x1 : Int} (hP : h_P D) (h : h_X35_one x1 D = some (r, D')) : aw_HR yX35_one cX35_one 6 (some (.int)) 2 G [(2, 5029), (0, x1)] D (some (0, r)) D' := by
  unfold h_X35_one at h
  refine hw_body (own := "WasteHouse$DepositCodes$Bars") (ini := false) (ls := [(0, (2, 5029)), (1, (0, x1))]) rfl rfl (fun h => by cases h) (Nat.le_of_ble_eq_true rfl) rfl fun Q hq => ?_
  refine hw_1 (fun k => x_aload_n dX35_one_0 rfl k) ?_
  refine hw_1 (fun k => x_iload_n dX35_one_1 rfl k) ?_
  replace h := ga_ck_some h; obtain ⟨hc2_0, h⟩ := h
  replace h := ga_let_some h; obtain ⟨D2, eD2, h⟩ := h
  refine hw_set eD2 (by decide) (by decide) (fun k => x_putf dX35_one_2 fl_X35_22 rfl (hkS (D := D) (show ga_K 5029 = (32, 0) from by decide +kernel) (by decide)) (by decide) hc2_0 k) ?_
  have hP2 : h_P D2 := hP.set eD2 (by decide) (by decide) (hPn (hkS (D := D) (show ga_K 5029 = (32, 0) from by decide +kernel) (by decide)) rfl)
  have hE2 : h_E D D2 := h_E_set eD2 (by decide)
  refine hw_1 (fun k => x_aload_n dX35_one_5 rfl k) ?_
  refine hw_1 (fun k => x_getf (v := D2 5029 4) dX35_one_6 fl_X35_26 (hkS (D := D2) (show ga_K 5029 = (32, 0) from by decide +kernel) (by decide)) rfl k) ?_
  refine hw_1 (fun k => x_bipush dX35_one_9 (by decide) k) ?_
  refine hw_1 (fun k => x_isub dX35_one_11 rfl k) ?_
  replace h := ga_let_some h; obtain ⟨v12, ev12, h⟩ := h
  refine hw_nm ev12 ?_
  refine hw_1 (fun k => x_istore_n (ls' := [(2, (0, v12)), (0, (2, 5029)), (1, (0, x1))]) dX35_one_12 (by decide) rfl k) ?_
  refine hw_1 (fun k => x_iload_n dX35_one_13 rfl k) ?_
  refine hw_1 (fun k => x_iconst dX35_one_14 (by decide) k) ?_
  by_cases c15 : v12 < 4
  · rw [if_pos c15] at h
    refine hw_1 (fun k => x_icmp_lt (tgt := 45) dX35_one_15 (by decide) (fun _ => k) (fun z => absurd c15 z)) ?_
    refine hw_1 (fun k => x_iconst dX35_one_45 (by decide) k) ?_
    obtain ⟨rfl, rfl⟩ := ga_end h
    exact hw_ret hP2 (x_iret dX35_one_46 rfl rfl trivial hq)
  · rw [if_neg c15] at h
    refine hw_1 (fun k => x_icmp_lt (tgt := 45) dX35_one_15 (by decide) (fun z => absurd z c15) (fun _ => k)) ?_
    refine hw_1 (fun k => x_iload_n dX35_one_18 rfl k) ?_
    refine hw_1 (fun k => x_iconst dX35_one_19 (by decide) k) ?_
    refine hw_1 (fun k => x_irem dX35_one_20 (by decide) rfl k) ?_
    by_cases c21 : Int.tmod v12 4 ≠ 0
    · rw [if_pos c21] at h
      refine hw_1 (fun k => x_if_ne (tgt := 45) dX35_one_21 (by decide) (fun _ => k) (fun z => absurd c21 z)) ?_
      refine hw_1 (fun k => x_iconst dX35_one_45 (by decide) k) ?_
      obtain ⟨rfl, rfl⟩ := ga_end h
      exact hw_ret hP2 (x_iret dX35_one_46 rfl rfl trivial hq)
    · rw [if_neg c21] at h
      refine hw_1 (fun k => x_if_ne (tgt := 45) dX35_one_21 (by decide) (fun z => absurd z c21) (fun _ => k)) ?_
      refine hw_1 (fun k => x_aload_n dX35_one_24 rfl k) ?_
      refine hw_1 (fun k => x_iconst dX35_one_25 (by decide) k) ?_
      replace h := ga_bind_some h; obtain ⟨r26, D26, g26, h⟩ := h
      have hR26 := (h_X35_isGuard_ok (G := G) hP2 g26)
      obtain ⟨hP26, hE26, -⟩ := id hR26
      refine hw_call (rest := []) hR26 (fun hc hk9 => x_callV (as := [(0, 0)]) (rest := []) dX35_one_26 hc (lw_V q3477 q3479 qs29 q434 q3480) (hkS (D := D2) (show ga_K 5029 = (32, 0) from by decide +kernel) (by decide)) rfl rfl (show _ ∧ _ ∧ _ ∧ _ = some 1 from by decide +kernel) (by decide) (by decide) rfl (Nat.le_of_ble_eq_true rfl) hk9 aw_nox) ?_
      by_cases c29 : r26 = 0
      · rw [if_pos c29] at h
        refine hw_1 (fun k => x_if_eq (tgt := 45) dX35_one_29 (by decide) (fun _ => k) (fun z => absurd c29 z)) ?_
        refine hw_1 (fun k => x_iconst dX35_one_45 (by decide) k) ?_
        obtain ⟨rfl, rfl⟩ := ga_end h
        exact hw_ret hP26 (x_iret dX35_one_46 rfl rfl trivial hq)
      · rw [if_neg c29] at h
        refine hw_1 (fun k => x_if_eq (tgt := 45) dX35_one_29 (by decide) (fun z => absurd z c29) (fun _ => k)) ?_
        refine hw_1 (fun k => x_aload_n dX35_one_32 rfl k) ?_
        refine hw_1 (fun k => x_aload_n dX35_one_33 rfl k) ?_
        refine hw_1 (fun k => x_getf (v := D26 5029 4) dX35_one_34 fl_X35_26 (hkS (D := D26) (show ga_K 5029 = (32, 0) from by decide +kernel) (by decide)) rfl k) ?_
        refine hw_1 (fun k => x_iconst dX35_one_37 (by decide) k) ?_
        refine hw_1 (fun k => x_isub dX35_one_38 rfl k) ?_
        replace h := ga_bind_some h; obtain ⟨r39, D39, g39, h⟩ := h
        have hR39 := (h_X35_isGuard_ok (G := G) hP26 g39)
        obtain ⟨hP39, hE39, -⟩ := id hR39
        refine hw_call (rest := []) hR39 (fun hc hk9 => x_callV (as := [(0, aw_w32 ((D26 5029 4) - 3))]) (rest := []) dX35_one_39 hc (lw_V q3477 q3479 qs29 q434 q3480) (hkS (D := D26) (show ga_K 5029 = (32, 0) from by decide +kernel) (by decide)) rfl rfl (show _ ∧ _ ∧ _ ∧ _ = some 1 from by decide +kernel) (by decide) (by decide) rfl (Nat.le_of_ble_eq_true rfl) hk9 aw_nox) ?_
        by_cases c42 : r39 ≠ 0
        · rw [if_pos c42] at h
          refine hw_1 (fun k => x_if_ne (tgt := 47) dX35_one_42 (by decide) (fun _ => k) (fun z => absurd c42 z)) ?_
          refine hw_1 (fun k => x_iload_n dX35_one_47 rfl k) ?_
          refine hw_1 (fun k => x_iconst dX35_one_48 (by decide) k) ?_
          refine hw_1 (fun k => x_idiv dX35_one_49 (by decide) rfl k) ?_
          replace h := ga_let_some h; obtain ⟨v50, ev50, h⟩ := h
          refine hw_nm ev50 ?_
          refine hw_1 (fun k => x_istore_n (ls' := [(3, (0, v50)), (2, (0, v12)), (0, (2, 5029)), (1, (0, x1))]) dX35_one_50 (by decide) rfl k) ?_
          refine hw_1 (fun k => x_iconst dX35_one_51 (by decide) k) ?_
          refine hw_1 (fun k => x_istore (ls' := [(4, (0, 0)), (3, (0, v50)), (2, (0, v12)), (0, (2, 5029)), (1, (0, x1))]) dX35_one_52 (by decide) rfl k) ?_
          refine hw_locs [3, 1, 0] (ls' := [(0, (2, 5029)), (3, (0, v50)), (4, (0, 0))]) rfl ?_
          refine h_X35_one_l54_ok hq (fun D78 hP h => ?_) (fun x3 D96 hP h => ?_) hP39 h
          · refine hw_1 (fun k => x_iconst dX35_one_78 (by decide) k) ?_
            obtain ⟨rfl, rfl⟩ := ga_end h
            exact hw_ret hP (x_iret dX35_one_79 rfl rfl trivial hq)
          · refine hw_1 (fun k => x_iload_n dX35_one_96 rfl k) ?_
            obtain ⟨rfl, rfl⟩ := ga_end h
            exact hw_ret hP (x_iret dX35_one_97 rfl rfl trivial hq)
        · rw [if_neg c42] at h
          refine hw_1 (fun k => x_if_ne (tgt := 47) dX35_one_42 (by decide) (fun z => absurd z c42) (fun _ => k)) ?_
          refine hw_1 (fun k => x_iconst dX35_one_45 (by decide) k) ?_
          obtain ⟨rfl, rfl⟩ := ga_end h
          exact hw_ret hP39 (x_iret dX35_one_46 rfl rfl trivial hq)
theorem h_X35_read_l5_ok {G : aw_G} {M0 : aw_M} {D' : ga_D} {Q : Option aw_V → aw_M → Prop} {r : Int} (hq : Q (some (0, r)) (hM D')) {k39 : Int → ga_D → ga_S} (hk39 : ∀ (x1 : Int) (D : ga_D), h_P D → k39 x1 D = some (r, D') → aw_HW G "WasteHouse$DepositCodes$Bars" cX35_read (some (.int)) 3 3 false M0 Q aw_no D' (hn D') (hsl D') 39 [(0, (2, 5029)), (1, (0, x1))] [] D) : ∀ {n : Nat} {x1 : Int} {D : ga_D}, h_P D → h_X35_read_l5 n x1 D k39 = some (r, D') → aw_HW G "WasteHouse$DepositCodes$Bars" cX35_read (some (.int)) 3 3 false M0 Q aw_no D' (hn D') (hsl D') 5 [(0, (2, 5029)), (1, (0, x1))] [] D := by
  intro n
  induction n with
  | zero => intro x1 D hP h; exact absurd (h : (none : ga_S) = some (r, D')) (by intro h; cases h)
  | succ n ih =>
    intro x1 D hP h
    have ih : ∀ (x1 : Int) (D : ga_D), h_P D → h_X35_read_l5 n x1 D k39 = some (r, D') → aw_HW G "WasteHouse$DepositCodes$Bars" cX35_read (some (.int)) 3 3 false M0 Q aw_no D' (hn D') (hsl D') 5 [(0, (2, 5029)), (1, (0, x1))] [] D := fun x1 D hP h => ih hP h
    replace h : (if 64 ≤ D 5029 4 then (k39 x1 D) else (ga_ck (0 ≤ D 5029 4 ∧ D 5029 4 < 64) (if D 5030 (D 5029 4) ≤ 0 then (k39 x1 D) else (ga_let (ga_set D 5029 4 (aw_w32 ((D 5029 4) + 1))) (fun D33 => h_X35_read_l5 n x1 D33 k39)))) : ga_S) = some (r, D') := h
    refine hw_1 (fun k => x_aload_n dX35_read_5 rfl k) ?_
    refine hw_1 (fun k => x_getf (v := D 5029 4) dX35_read_6 fl_X35_26 (hkS (D := D) (show ga_K 5029 = (32, 0) from by decide +kernel) (by decide)) rfl k) ?_
    refine hw_1 (fun k => x_bipush dX35_read_9 (by decide) k) ?_
    by_cases c11 : 64 ≤ D 5029 4
    · rw [if_pos c11] at h
      refine hw_1 (fun k => x_icmp_ge (tgt := 39) dX35_read_11 (by decide) (fun _ => k) (fun z => absurd c11 z)) ?_
      exact hk39 _ _ hP h
    · rw [if_neg c11] at h
      refine hw_1 (fun k => x_icmp_ge (tgt := 39) dX35_read_11 (by decide) (fun z => absurd z c11) (fun _ => k)) ?_
      refine hw_1 (fun k => x_aload_n dX35_read_14 rfl k) ?_
      refine hw_1 (fun k => x_getf (v := 5030) dX35_read_15 fl_X35_9 (hkS (D := D) (show ga_K 5029 = (32, 0) from by decide +kernel) (by decide)) (hP.1 5029 0 5030 (by decide +kernel)) k) ?_
      refine hw_1 (fun k => x_aload_n dX35_read_18 rfl k) ?_
      refine hw_1 (fun k => x_getf (v := D 5029 4) dX35_read_19 fl_X35_26 (hkS (D := D) (show ga_K 5029 = (32, 0) from by decide +kernel) (by decide)) rfl k) ?_
      replace h := ga_ck_some h; obtain ⟨hc22_0, h⟩ := h
      refine hw_1 (fun k => x_iald (v := D 5030 (D 5029 4)) dX35_read_22 (hkS (D := D) (show ga_K 5030 = (1000, 64) from by decide +kernel) (by decide)) hc22_0.1 hc22_0.2 rfl k) ?_
      by_cases c23 : D 5030 (D 5029 4) ≤ 0
      · rw [if_pos c23] at h
        refine hw_1 (fun k => x_if_le (tgt := 39) dX35_read_23 (by decide) (fun _ => k) (fun z => absurd c23 z)) ?_
        exact hk39 _ _ hP h
      · rw [if_neg c23] at h
        refine hw_1 (fun k => x_if_le (tgt := 39) dX35_read_23 (by decide) (fun z => absurd z c23) (fun _ => k)) ?_
        refine hw_1 (fun k => x_aload_n dX35_read_26 rfl k) ?_
        refine hw_1 (fun k => x_dup dX35_read_27 rfl k) ?_
        refine hw_1 (fun k => x_getf (v := D 5029 4) dX35_read_28 fl_X35_26 (hkS (D := D) (show ga_K 5029 = (32, 0) from by decide +kernel) (by decide)) rfl k) ?_
        refine hw_1 (fun k => x_iconst dX35_read_31 (by decide) k) ?_
        refine hw_1 (fun k => x_iadd dX35_read_32 rfl k) ?_
        replace h := ga_let_some h; obtain ⟨D33, eD33, h⟩ := h
        refine hw_set eD33 (by decide) (by decide) (fun k => x_putf dX35_read_33 fl_X35_26 rfl (hkS (D := D) (show ga_K 5029 = (32, 0) from by decide +kernel) (by decide)) (by decide) trivial k) ?_
        have hP33 : h_P D33 := hP.set eD33 (by decide) (by decide) (hPn (hkS (D := D) (show ga_K 5029 = (32, 0) from by decide +kernel) (by decide)) rfl)
        have hE33 : h_E D D33 := h_E_set eD33 (by decide)
        refine hw_1 (fun k => x_goto (tgt := 5) dX35_read_36 (by decide) k) ?_
        exact ih _ _ hP33 h
theorem h_X35_read_j67_ok {G : aw_G} {M0 : aw_M} {D' : ga_D} {Q : Option aw_V → aw_M → Prop} {r : Int} (hq : Q (some (0, r)) (hM D')) {s0 : Int} {D : ga_D} (hP : h_P D) (h : h_X35_read_j67 s0 D = some (r, D')) : aw_HW G "WasteHouse$DepositCodes$Bars" cX35_read (some (.int)) 3 3 false M0 Q aw_no D' (hn D') (hsl D') 67 [(0, (2, 5029))] [(0, s0)] D := by
  unfold h_X35_read_j67 at h
  refine hw_1 (fun k => x_istore_n (ls' := [(2, (0, s0)), (0, (2, 5029))]) dX35_read_67 (by decide) rfl k) ?_
  refine hw_1 (fun k => x_aload_n dX35_read_68 rfl k) ?_
  refine hw_1 (fun k => x_iconst dX35_read_69 (by decide) k) ?_
  refine hw_1 (fun k => x_iload_n dX35_read_70 rfl k) ?_
  refine hw_1 (fun k => x_mmax dX35_read_71 q3491 q1960 q409 q1961 (by decide) (Nat.le_of_ble_eq_true rfl) rfl k) ?_
  replace h := ga_ck_some h; obtain ⟨hc74_0, h⟩ := h
  replace h := ga_let_some h; obtain ⟨z74, ez74, h⟩ := h
  replace h := ga_let_some h; obtain ⟨D74, eD74, h⟩ := h
  refine hy_newa (t := 2) hP ez74 eD74 rfl rfl dX35_read_74 rfl (by decide) q578 hc74_0.1 hc74_0.2 (fun hP74 hE74 hz74 hg74 => ?_)
  replace h := ga_let_some h; obtain ⟨D76, eD76, h⟩ := h
  refine hw_set eD76 (by decide) (by decide) (fun k => x_putf dX35_read_76 fl_X35_19 rfl (hkS (D := D74) (show ga_K 5029 = (32, 0) from by decide +kernel) (by decide)) (by decide) trivial k) ?_
  have hP76 : h_P D76 := hP74.set eD76 (by decide) (by decide) (hPn (hkS (D := D74) (show ga_K 5029 = (32, 0) from by decide +kernel) (by decide)) rfl)
  have hE76 : h_E D74 D76 := h_E_set eD76 (by decide)
  refine hw_1 (fun k => x_aload_n dX35_read_79 rfl k) ?_
  refine hw_1 (fun k => x_getf (v := 5031) dX35_read_80 fl_X35_15 (hkS (D := D76) (show ga_K 5029 = (32, 0) from by decide +kernel) (by decide)) (hP76.1 5029 1 5031 (by decide +kernel)) k) ?_
  refine hw_1 (fun k => x_iconst dX35_read_83 (by decide) k) ?_
  refine hw_1 (fun k => x_aload_n dX35_read_84 rfl k) ?_
  refine hw_1 (fun k => x_getf (v := D76 5029 2) dX35_read_85 fl_X35_19 (hkS (D := D76) (show ga_K 5029 = (32, 0) from by decide +kernel) (by decide)) rfl k) ?_
  refine hw_1 (fun k => x_iconst dX35_read_88 (by decide) k) ?_
  refine hw_1 (fun k => x_aload_n dX35_read_89 rfl k) ?_
  refine hw_1 (fun k => x_getf (v := D76 5029 2) dX35_read_90 fl_X35_19 (hkS (D := D76) (show ga_K 5029 = (32, 0) from by decide +kernel) (by decide)) rfl k) ?_
  replace h := ga_ck_some h; obtain ⟨hc93_1, h⟩ := h
  refine hw_1 (fun k => x_alen (t := 2) dX35_read_93 (hk_p hc93_1) rfl k) ?_
  replace h := ga_ck_some h; obtain ⟨hc94_2, h⟩ := h
  replace h := ga_ck_some h; obtain ⟨hc94_3, h⟩ := h
  replace h := ga_let_some h; obtain ⟨D94, eD94, h⟩ := h
  refine hw_cp eD94 (Int.le_trans (by decide) hc94_2) hc94_3.2.1 (fun k => x_copy (t := 2) rfl dX35_read_94 q3492 q2070 q2069 q444 (hkS (D := D76) (show ga_K 5031 = (1002, 16) from by decide +kernel) (by decide)) (hk_p hc93_1) rfl rfl hc94_2 hc94_3 (by decide) (Nat.le_of_ble_eq_true rfl) k) ?_
  have hP94 : h_P D94 := hP76.cp eD94 hc94_2 hc94_3.2.1 (fun _ => hPn (hk_p hc93_1) rfl)
  have hE94 : h_E D76 D94 := h_E_cp eD94 hc94_3.2.1
  refine hw_1 (fun k => x_iload_n dX35_read_97 rfl k) ?_
  obtain ⟨rfl, rfl⟩ := ga_end h
  exact hw_ret hP94 (x_iret dX35_read_98 rfl rfl trivial hq)
theorem h_X35_read_j60_ok {G : aw_G} {M0 : aw_M} {D' : ga_D} {Q : Option aw_V → aw_M → Prop} {r : Int} (hq : Q (some (0, r)) (hM D')) {s0 : Int} {D : ga_D} (hP : h_P D) (h : h_X35_read_j60 s0 D = some (r, D')) : aw_HW G "WasteHouse$DepositCodes$Bars" cX35_read (some (.int)) 3 3 false M0 Q aw_no D' (hn D') (hsl D') 60 [(0, (2, 5029))] [(0, s0), (2, 5029)] D := by
  unfold h_X35_read_j60 at h
  replace h := ga_bind_some h; obtain ⟨r60, D60, g60, h⟩ := h
  have hR60 := (h_X35_one_ok (G := G) hP g60)
  obtain ⟨hP60, hE60, -⟩ := id hR60
  refine hw_call (rest := []) hR60 (fun hc hk9 => x_callV (as := [(0, s0)]) (rest := []) dX35_read_60 hc (lw_V q3473 q3475 qs28 q434 q3476) (hkS (D := D) (show ga_K 5029 = (32, 0) from by decide +kernel) (by decide)) rfl rfl (show _ ∧ _ ∧ _ ∧ _ = some 1 from by decide +kernel) (by decide) (by decide) rfl (Nat.le_of_ble_eq_true rfl) hk9 aw_nox) ?_
  refine hw_1 (fun k => x_goto (tgt := 67) dX35_read_63 (by decide) k) ?_
  refine h_X35_read_j67_ok hq hP60 h
theorem h_X35_read_j39_ok {G : aw_G} {M0 : aw_M} {D' : ga_D} {Q : Option aw_V → aw_M → Prop} {r : Int} (hq : Q (some (0, r)) (hM D')) {x1 : Int} {D : ga_D} (hP : h_P D) (h : h_X35_read_j39 x1 D = some (r, D')) : aw_HW G "WasteHouse$DepositCodes$Bars" cX35_read (some (.int)) 3 3 false M0 Q aw_no D' (hn D') (hsl D') 39 [(0, (2, 5029)), (1, (0, x1))] [] D := by
  unfold h_X35_read_j39 at h
  refine hw_1 (fun k => x_aload_n dX35_read_39 rfl k) ?_
  refine hw_1 (fun k => x_iload_n dX35_read_40 rfl k) ?_
  replace h := ga_bind_some h; obtain ⟨r41, D41, g41, h⟩ := h
  have hR41 := (h_X35_one_ok (G := G) hP g41)
  obtain ⟨hP41, hE41, -⟩ := id hR41
  refine hw_call (rest := []) hR41 (fun hc hk9 => x_callV (as := [(0, x1)]) (rest := []) dX35_read_41 hc (lw_V q3473 q3475 qs28 q434 q3476) (hkS (D := D) (show ga_K 5029 = (32, 0) from by decide +kernel) (by decide)) rfl rfl (show _ ∧ _ ∧ _ ∧ _ = some 1 from by decide +kernel) (by decide) (by decide) rfl (Nat.le_of_ble_eq_true rfl) hk9 aw_nox) ?_
  refine hw_1 (fun k => x_istore_n (ls' := [(2, (0, r41)), (0, (2, 5029)), (1, (0, x1))]) dX35_read_44 (by decide) rfl k) ?_
  refine hw_1 (fun k => x_iload_n dX35_read_45 rfl k) ?_
  refine hw_1 (fun k => x_iconst dX35_read_46 (by decide) k) ?_
  by_cases c47 : r41 ≠ (-1)
  · rw [if_pos c47] at h
    refine hw_1 (fun k => x_icmp_ne (tgt := 66) dX35_read_47 (by decide) (fun _ => k) (fun z => absurd c47 z)) ?_
    refine hw_1 (fun k => x_iload_n dX35_read_66 rfl k) ?_
    refine hw_locs [1] (ls' := [(0, (2, 5029))]) rfl ?_
    refine h_X35_read_j67_ok hq hP41 h
  · rw [if_neg c47] at h
    refine hw_1 (fun k => x_icmp_ne (tgt := 66) dX35_read_47 (by decide) (fun z => absurd z c47) (fun _ => k)) ?_
    refine hw_1 (fun k => x_aload_n dX35_read_50 rfl k) ?_
    refine hw_1 (fun k => x_iload_n dX35_read_51 rfl k) ?_
    by_cases c52 : x1 ≠ 0
    · rw [if_pos c52] at h
      refine hw_1 (fun k => x_if_ne (tgt := 59) dX35_read_52 (by decide) (fun _ => k) (fun z => absurd c52 z)) ?_
      refine hw_1 (fun k => x_iconst dX35_read_59 (by decide) k) ?_
      refine hw_locs [1] (ls' := [(0, (2, 5029))]) rfl ?_
      refine h_X35_read_j60_ok hq hP41 h
    · rw [if_neg c52] at h
      refine hw_1 (fun k => x_if_ne (tgt := 59) dX35_read_52 (by decide) (fun z => absurd z c52) (fun _ => k)) ?_
      refine hw_1 (fun k => x_iconst dX35_read_55 (by decide) k) ?_
      refine hw_1 (fun k => x_goto (tgt := 60) dX35_read_56 (by decide) k) ?_
      refine hw_locs [1] (ls' := [(0, (2, 5029))]) rfl ?_
      refine h_X35_read_j60_ok hq hP41 h
theorem h_X35_read_ok {G : aw_G} {D D' : ga_D} {r : Int} {x1 : Int} (hP : h_P D) (h : h_X35_read x1 D = some (r, D')) : aw_HR yX35_read cX35_read 3 (some (.int)) 3 G [(2, 5029), (0, x1)] D (some (0, r)) D' := by
  unfold h_X35_read at h
  refine hw_body (own := "WasteHouse$DepositCodes$Bars") (ini := false) (ls := [(0, (2, 5029)), (1, (0, x1))]) rfl rfl (fun h => by cases h) (Nat.le_of_ble_eq_true rfl) rfl fun Q hq => ?_
  refine hw_1 (fun k => x_aload_n dX35_read_0 rfl k) ?_
  refine hw_1 (fun k => x_iconst dX35_read_1 (by decide) k) ?_
  replace h := ga_let_some h; obtain ⟨D2, eD2, h⟩ := h
  refine hw_set eD2 (by decide) (by decide) (fun k => x_putf dX35_read_2 fl_X35_26 rfl (hkS (D := D) (show ga_K 5029 = (32, 0) from by decide +kernel) (by decide)) (by decide) trivial k) ?_
  have hP2 : h_P D2 := hP.set eD2 (by decide) (by decide) (hPn (hkS (D := D) (show ga_K 5029 = (32, 0) from by decide +kernel) (by decide)) rfl)
  have hE2 : h_E D D2 := h_E_set eD2 (by decide)
  refine h_X35_read_l5_ok hq (fun x1 D39 hP h => ?_) hP2 h
  · refine h_X35_read_j39_ok hq hP h
theorem h_X34_read_ok {G : aw_G} {D D' : ga_D} {r : Int} (hP : h_P D) (h : h_X34_read D = some (r, D')) : aw_HR yX34_read cX34_read 1 (some (.int)) 4 G [(2, 5028)] D (some (0, r)) D' := by
  unfold h_X34_read at h
  refine hw_body (own := "WasteHouse$DepositCodes") (ini := false) (ls := [(0, (2, 5028))]) rfl rfl (fun h => by cases h) (Nat.le_of_ble_eq_true rfl) rfl fun Q hq => ?_
  refine hw_1 (fun k => x_aload_n dX34_read_0 rfl k) ?_
  refine hw_1 (fun k => x_getf (v := 5029) dX34_read_1 fl_X34_10 (hkS (D := D) (show ga_K 5028 = (31, 0) from by decide +kernel) (by decide)) (hP.1 5028 0 5029 (by decide +kernel)) k) ?_
  refine hw_1 (fun k => x_iconst dX34_read_4 (by decide) k) ?_
  replace h := ga_bind_some h; obtain ⟨r5, D5, g5, h⟩ := h
  have hR5 := (h_X35_read_ok (G := G) hP g5)
  obtain ⟨hP5, hE5, -⟩ := id hR5
  refine hw_call (rest := []) hR5 (fun hc hk9 => x_callV (as := [(0, 0)]) (rest := []) dX34_read_5 hc (lw_V q3469 q3470 q3471 q434 q3472) (hkS (D := D) (show ga_K 5029 = (32, 0) from by decide +kernel) (by decide)) rfl rfl (show _ ∧ _ ∧ _ ∧ _ = some 1 from by decide +kernel) (by decide) (by decide) rfl (Nat.le_of_ble_eq_true rfl) hk9 aw_nox) ?_
  obtain ⟨rfl, rfl⟩ := ga_end h
  exact hw_ret hP5 (x_iret dX34_read_8 rfl rfl trivial hq)
theorem h_X34_back_ok {G : aw_G} {D D' : ga_D} {r : Int} (hP : h_P D) (h : h_X34_back D = some (r, D')) : aw_HR yX34_back cX34_back 1 (some (.int)) 4 G [(2, 5028)] D (some (0, r)) D' := by
  unfold h_X34_back at h
  refine hw_body (own := "WasteHouse$DepositCodes") (ini := false) (ls := [(0, (2, 5028))]) rfl rfl (fun h => by cases h) (Nat.le_of_ble_eq_true rfl) rfl fun Q hq => ?_
  refine hw_1 (fun k => x_aload_n dX34_back_0 rfl k) ?_
  refine hw_1 (fun k => x_getf (v := 5029) dX34_back_1 fl_X34_10 (hkS (D := D) (show ga_K 5028 = (31, 0) from by decide +kernel) (by decide)) (hP.1 5028 0 5029 (by decide +kernel)) k) ?_
  refine hw_1 (fun k => x_iconst dX34_back_4 (by decide) k) ?_
  replace h := ga_bind_some h; obtain ⟨r5, D5, g5, h⟩ := h
  have hR5 := (h_X35_read_ok (G := G) hP g5)
  obtain ⟨hP5, hE5, -⟩ := id hR5
  refine hw_call (rest := []) hR5 (fun hc hk9 => x_callV (as := [(0, 1)]) (rest := []) dX34_back_5 hc (lw_V q3469 q3470 q3471 q434 q3472) (hkS (D := D) (show ga_K 5029 = (32, 0) from by decide +kernel) (by decide)) rfl rfl (show _ ∧ _ ∧ _ ∧ _ = some 1 from by decide +kernel) (by decide) (by decide) rfl (Nat.le_of_ble_eq_true rfl) hk9 aw_nox) ?_
  obtain ⟨rfl, rfl⟩ := ga_end h
  exact hw_ret hP5 (x_iret dX34_back_8 rfl rfl trivial hq)
theorem h_X35_digitAt_ok {G : aw_G} {D D' : ga_D} {r : Int} {x1 : Int} (hr9 : r < 1180591620717411303424) (hP : h_P D) (h : h_X35_digitAt x1 D = some (r, D')) : aw_HR yX35_digitAt cX35_digitAt 2 (some (.int)) 0 G [(2, 5029), (0, x1)] D (some (0, r)) D' := by
  unfold h_X35_digitAt at h
  refine hw_body (own := "WasteHouse$DepositCodes$Bars") (ini := false) (ls := [(0, (2, 5029)), (1, (0, x1))]) rfl rfl (fun h => by cases h) (Nat.le_of_ble_eq_true rfl) rfl fun Q hq => ?_
  refine hw_1 (fun k => x_aload_n dX35_digitAt_0 rfl k) ?_
  refine hw_1 (fun k => x_getf (v := D 5029 2) dX35_digitAt_1 fl_X35_19 (hkS (D := D) (show ga_K 5029 = (32, 0) from by decide +kernel) (by decide)) rfl k) ?_
  refine hw_1 (fun k => x_iload_n dX35_digitAt_4 rfl k) ?_
  replace h := ga_ck_some h; obtain ⟨hc5_0, h⟩ := h
  by_cases hthr : 0 ≤ x1 ∧ x1 < (hk D (D 5029 2)).2
  case neg => rw [if_pos hthr] at h; replace h := ga_ck_some h; obtain ⟨-, h⟩ := h; exact absurd hr9 (by have := (ga_end h).1; omega)
  rw [if_neg (fun z => z hthr)] at h
  refine hw_1 (fun k => x_bald (v := D (D 5029 2) x1) dX35_digitAt_5 (hk_p hc5_0) hthr.1 hthr.2 rfl k) ?_
  obtain ⟨rfl, rfl⟩ := ga_end h
  exact hw_ret hP (x_iret dX35_digitAt_6 rfl rfl trivial hq)
theorem h_X34_digit_ok {G : aw_G} {D D' : ga_D} {r : Int} {x1 : Int} (hr9 : r < 1180591620717411303424) (hP : h_P D) (h : h_X34_digit x1 D = some (r, D')) : aw_HR yX34_digit cX34_digit 2 (some (.int)) 1 G [(2, 5028), (0, x1)] D (some (0, r)) D' := by
  unfold h_X34_digit at h
  refine hw_body (own := "WasteHouse$DepositCodes") (ini := false) (ls := [(0, (2, 5028)), (1, (0, x1))]) rfl rfl (fun h => by cases h) (Nat.le_of_ble_eq_true rfl) rfl fun Q hq => ?_
  refine hw_1 (fun k => x_aload_n dX34_digit_0 rfl k) ?_
  refine hw_1 (fun k => x_getf (v := 5029) dX34_digit_1 fl_X34_10 (hkS (D := D) (show ga_K 5028 = (31, 0) from by decide +kernel) (by decide)) (hP.1 5028 0 5029 (by decide +kernel)) k) ?_
  refine hw_1 (fun k => x_iload_n dX34_digit_4 rfl k) ?_
  replace h := ga_bnd_some hr9 h; obtain ⟨r5, D5, g5, hr5, h⟩ := h
  have hR5 := (h_X35_digitAt_ok (G := G) hr5 hP g5)
  obtain ⟨hP5, hE5, -⟩ := id hR5
  refine hw_call (rest := []) hR5 (fun hc hk9 => x_callV (as := [(0, x1)]) (rest := []) dX34_digit_5 hc (lw_V q3501 q3502 q3503 q434 q3504) (hkS (D := D) (show ga_K 5029 = (32, 0) from by decide +kernel) (by decide)) rfl rfl (show _ ∧ _ ∧ _ ∧ _ = some 1 from by decide +kernel) (by decide) (by decide) rfl (Nat.le_of_ble_eq_true rfl) hk9 aw_nox) ?_
  obtain ⟨rfl, rfl⟩ := ga_end h
  exact hw_ret hP5 (x_iret dX34_digit_8 rfl rfl trivial hq)
theorem h_X34_check_ok {G : aw_G} {D D' : ga_D} {r : Int} {x1 x2 : Int} (hP : h_P D) (h : h_X34_check x1 x2 D = some (r, D')) : aw_HR yX34_check cX34_check 4 (some (.int)) 1 G [(2, 5028), (0, x1), (1, x2)] D (some (0, r)) D' := by
  unfold h_X34_check at h
  refine hw_body (own := "WasteHouse$DepositCodes") (ini := false) (ls := [(0, (2, 5028)), (1, (0, x1)), (2, (1, x2))]) rfl rfl (fun h => by cases h) (Nat.le_of_ble_eq_true rfl) rfl fun Q hq => ?_
  refine hw_1 (fun k => x_iload_n dX34_check_0 rfl k) ?_
  by_cases c1 : x1 < 0
  · rw [if_pos c1] at h
    refine hw_1 (fun k => x_if_lt (tgt := 16) dX34_check_1 (by decide) (fun _ => k) (fun z => absurd c1 z)) ?_
    refine hw_1 (fun k => x_iconst dX34_check_16 (by decide) k) ?_
    refine hw_1 (fun k => x_goto (tgt := 25) dX34_check_17 (by decide) k) ?_
    obtain ⟨rfl, rfl⟩ := ga_end h
    exact hw_ret hP (x_iret dX34_check_25 rfl rfl trivial hq)
  · rw [if_neg c1] at h
    refine hw_1 (fun k => x_if_lt (tgt := 16) dX34_check_1 (by decide) (fun z => absurd z c1) (fun _ => k)) ?_
    refine hw_1 (fun k => x_iload_n dX34_check_4 rfl k) ?_
    refine hw_1 (fun k => x_iconst dX34_check_5 (by decide) k) ?_
    by_cases c6 : 1 < x1
    · rw [if_pos c6] at h
      refine hw_1 (fun k => x_icmp_gt (tgt := 16) dX34_check_6 (by decide) (fun _ => k) (fun z => absurd c6 z)) ?_
      refine hw_1 (fun k => x_iconst dX34_check_16 (by decide) k) ?_
      refine hw_1 (fun k => x_goto (tgt := 25) dX34_check_17 (by decide) k) ?_
      obtain ⟨rfl, rfl⟩ := ga_end h
      exact hw_ret hP (x_iret dX34_check_25 rfl rfl trivial hq)
    · rw [if_neg c6] at h
      refine hw_1 (fun k => x_icmp_gt (tgt := 16) dX34_check_6 (by decide) (fun z => absurd z c6) (fun _ => k)) ?_
      refine hw_1 (fun k => x_lload_n dX34_check_9 rfl k) ?_
      replace h := ga_bind_some h; obtain ⟨r10, D10, g10, h⟩ := h
      have hR10 := (h_X58_is_ok (G := G) hP g10)
      obtain ⟨hP10, hE10, -⟩ := id hR10
      refine hw_call (rest := []) hR10 (fun hc hk9 => x_callS (as := [(1, x2)]) (rest := []) dX34_check_10 hc (lw_S q3509 q3510 q481 q3511) (show _ ∧ _ ∧ _ = some 1 from by decide +kernel) (by decide) (by decide) rfl (Nat.le_of_ble_eq_true rfl) hk9 aw_nox) ?_
      by_cases c13 : r10 ≠ 0
      · rw [if_pos c13] at h
        refine hw_1 (fun k => x_if_ne (tgt := 20) dX34_check_13 (by decide) (fun _ => k) (fun z => absurd c13 z)) ?_
        refine hw_1 (fun k => x_iload_n dX34_check_20 rfl k) ?_
        refine hw_1 (fun k => x_lload_n dX34_check_21 rfl k) ?_
        replace h := ga_bind_some h; obtain ⟨r22, D22, g22, h⟩ := h
        have hR22 := (h_X58_check_ok (G := G) hP10 g22)
        obtain ⟨hP22, hE22, -⟩ := id hR22
        refine hw_call (rest := []) hR22 (fun hc hk9 => x_callS (as := [(0, x1), (1, x2)]) (rest := []) dX34_check_22 hc (lw_S q3513 q3514 q481 q3515) (show _ ∧ _ ∧ _ = some 2 from by decide +kernel) (by decide) (by decide) rfl (Nat.le_of_ble_eq_true rfl) hk9 aw_nox) ?_
        obtain ⟨rfl, rfl⟩ := ga_end h
        exact hw_ret hP22 (x_iret dX34_check_25 rfl rfl trivial hq)
      · rw [if_neg c13] at h
        refine hw_1 (fun k => x_if_ne (tgt := 20) dX34_check_13 (by decide) (fun z => absurd z c13) (fun _ => k)) ?_
        refine hw_1 (fun k => x_iconst dX34_check_16 (by decide) k) ?_
        refine hw_1 (fun k => x_goto (tgt := 25) dX34_check_17 (by decide) k) ?_
        obtain ⟨rfl, rfl⟩ := ga_end h
        exact hw_ret hP10 (x_iret dX34_check_25 rfl rfl trivial hq)
theorem h_X34_good_ok {G : aw_G} {D D' : ga_D} {r : Int} {x1 x2 : Int} (hP : h_P D) (h : h_X34_good x1 x2 D = some (r, D')) : aw_HR yX34_good cX34_good 4 (some (.boolean)) 2 G [(2, 5028), (0, x1), (1, x2)] D (some (0, r)) D' := by
  unfold h_X34_good at h
  refine hw_body (own := "WasteHouse$DepositCodes") (ini := false) (ls := [(0, (2, 5028)), (1, (0, x1)), (2, (1, x2))]) rfl rfl (fun h => by cases h) (Nat.le_of_ble_eq_true rfl) rfl fun Q hq => ?_
  refine hw_1 (fun k => x_iload_n dX34_good_0 rfl k) ?_
  by_cases c1 : x1 < 0
  · rw [if_pos c1] at h
    refine hw_1 (fun k => x_if_lt (tgt := 28) dX34_good_1 (by decide) (fun _ => k) (fun z => absurd c1 z)) ?_
    refine hw_1 (fun k => x_iconst dX34_good_28 (by decide) k) ?_
    obtain ⟨rfl, rfl⟩ := ga_end h
    exact hw_ret hP (x_iret dX34_good_29 rfl rfl (show (0 : Int) ≤ 0 ∧ (0 : Int) < 2 from by decide) hq)
  · rw [if_neg c1] at h
    refine hw_1 (fun k => x_if_lt (tgt := 28) dX34_good_1 (by decide) (fun z => absurd z c1) (fun _ => k)) ?_
    refine hw_1 (fun k => x_iload_n dX34_good_4 rfl k) ?_
    refine hw_1 (fun k => x_iconst dX34_good_5 (by decide) k) ?_
    by_cases c6 : 1 < x1
    · rw [if_pos c6] at h
      refine hw_1 (fun k => x_icmp_gt (tgt := 28) dX34_good_6 (by decide) (fun _ => k) (fun z => absurd c6 z)) ?_
      refine hw_1 (fun k => x_iconst dX34_good_28 (by decide) k) ?_
      obtain ⟨rfl, rfl⟩ := ga_end h
      exact hw_ret hP (x_iret dX34_good_29 rfl rfl (show (0 : Int) ≤ 0 ∧ (0 : Int) < 2 from by decide) hq)
    · rw [if_neg c6] at h
      refine hw_1 (fun k => x_icmp_gt (tgt := 28) dX34_good_6 (by decide) (fun z => absurd z c6) (fun _ => k)) ?_
      refine hw_1 (fun k => x_lload_n dX34_good_9 rfl k) ?_
      replace h := ga_bind_some h; obtain ⟨r10, D10, g10, h⟩ := h
      have hR10 := (h_X58_is_ok (G := G) hP g10)
      obtain ⟨hP10, hE10, -⟩ := id hR10
      refine hw_call (rest := []) hR10 (fun hc hk9 => x_callS (as := [(1, x2)]) (rest := []) dX34_good_10 hc (lw_S q3509 q3510 q481 q3511) (show _ ∧ _ ∧ _ = some 1 from by decide +kernel) (by decide) (by decide) rfl (Nat.le_of_ble_eq_true rfl) hk9 aw_nox) ?_
      by_cases c13 : r10 = 0
      · rw [if_pos c13] at h
        refine hw_1 (fun k => x_if_eq (tgt := 28) dX34_good_13 (by decide) (fun _ => k) (fun z => absurd c13 z)) ?_
        refine hw_1 (fun k => x_iconst dX34_good_28 (by decide) k) ?_
        obtain ⟨rfl, rfl⟩ := ga_end h
        exact hw_ret hP10 (x_iret dX34_good_29 rfl rfl (show (0 : Int) ≤ 0 ∧ (0 : Int) < 2 from by decide) hq)
      · rw [if_neg c13] at h
        refine hw_1 (fun k => x_if_eq (tgt := 28) dX34_good_13 (by decide) (fun z => absurd z c13) (fun _ => k)) ?_
        refine hw_1 (fun k => x_iload_n dX34_good_16 rfl k) ?_
        refine hw_1 (fun k => x_lload_n dX34_good_17 rfl k) ?_
        replace h := ga_bind_some h; obtain ⟨r18, D18, g18, h⟩ := h
        have hR18 := (h_X58_isGood_ok (G := G) hP10 g18)
        obtain ⟨hP18, hE18, -⟩ := id hR18
        refine hw_call (rest := []) hR18 (fun hc hk9 => x_callS (as := [(0, x1), (1, x2)]) (rest := []) dX34_good_18 hc (lw_S q3521 q3522 q481 q3523) (show _ ∧ _ ∧ _ = some 2 from by decide +kernel) (by decide) (by decide) rfl (Nat.le_of_ble_eq_true rfl) hk9 aw_nox) ?_
        by_cases c21 : r18 = 0
        · rw [if_pos c21] at h
          refine hw_1 (fun k => x_if_eq (tgt := 28) dX34_good_21 (by decide) (fun _ => k) (fun z => absurd c21 z)) ?_
          refine hw_1 (fun k => x_iconst dX34_good_28 (by decide) k) ?_
          obtain ⟨rfl, rfl⟩ := ga_end h
          exact hw_ret hP18 (x_iret dX34_good_29 rfl rfl (show (0 : Int) ≤ 0 ∧ (0 : Int) < 2 from by decide) hq)
        · rw [if_neg c21] at h
          refine hw_1 (fun k => x_if_eq (tgt := 28) dX34_good_21 (by decide) (fun z => absurd z c21) (fun _ => k)) ?_
          refine hw_1 (fun k => x_iconst dX34_good_24 (by decide) k) ?_
          refine hw_1 (fun k => x_goto (tgt := 29) dX34_good_25 (by decide) k) ?_
          obtain ⟨rfl, rfl⟩ := ga_end h
          exact hw_ret hP18 (x_iret dX34_good_29 rfl rfl (show (0 : Int) ≤ 1 ∧ (1 : Int) < 2 from by decide) hq)
theorem h_X60_init_ok {G : aw_G} {D D' : ga_D} {r : Int} {x0 : Int} (hx0 : 0 < x0) (hP : h_P D) (h : h_X60_init x0 D = some (r, D')) : aw_HR yX60_init cX60_init 1 none 4 G [(2, x0)] D none D' := by
  unfold h_X60_init at h
  refine hw_body (own := "WasteHouse$DepositCodes$PaidSet") (ini := true) (ls := [(0, (2, x0))]) rfl rfl (fun _ => rfl) (Nat.le_of_ble_eq_true rfl) rfl fun Q hq => ?_
  refine hw_1 (fun k => x_aload_n dX60_init_0 rfl k) ?_
  refine hw_1 (fun k => x_objInit0 dX60_init_1 q3544 q512 q513 hx0 (by decide) (Nat.le_of_ble_eq_true rfl) k) ?_
  refine hw_1 (fun k => x_aload_n dX60_init_4 rfl k) ?_
  replace h := ga_let_some h; obtain ⟨z5, ez5, h⟩ := h
  replace h := ga_let_some h; obtain ⟨D5, eD5, h⟩ := h
  refine hy_new hP ez5 eD5 rfl rfl dX60_init_5 rfl rfl q3545 q622 q403 (fun hP5 hE5 hz5 hg5 => ?_)
  refine hw_1 (fun k => x_dup dX60_init_8 rfl k) ?_
  replace h := ga_bind_some h; obtain ⟨r9, D9, g9, h⟩ := h
  have hR9 := (h_J4_init_ok (G := G) (hk_pos1 hz5 (by decide)) hP5 g9)
  obtain ⟨hP9, hE9, -⟩ := id hR9
  refine hw_call (rest := [(2, z5), (2, x0)]) hR9 (fun hc hk9 => x_callI (as := []) (rest := [(2, z5), (2, x0)]) dX60_init_9 hc (lw_meth q625) q403 q3546 q624 hz5 rfl rfl (show _ ∧ _ ∧ _ = some 0 from by decide +kernel) (by decide) (by decide) rfl (Nat.le_of_ble_eq_true rfl) hk9 aw_nox) ?_
  replace h := ga_ck_some h; obtain ⟨hc12_0, h⟩ := h
  replace h := ga_let_some h; obtain ⟨D12, eD12, h⟩ := h
  refine hw_set eD12 (Int.le_trans (by decide) (hkge_55 hc12_0)) (by decide) (fun k => x_putfF dX60_init_12 fl_X60_10 rfl rfl hc12_0 (hkge_55 hc12_0) trivial k) ?_
  have hP12 : h_P D12 := hP9.set eD12 (hkge_55 hc12_0) (by decide) (hPn hc12_0 rfl)
  have hE12 : h_E D9 D12 := h_E_set eD12 (by decide)
  refine hw_1 (fun k => x_aload_n dX60_init_15 rfl k) ?_
  replace h := ga_let_some h; obtain ⟨z16, ez16, h⟩ := h
  replace h := ga_let_some h; obtain ⟨D16, eD16, h⟩ := h
  refine hy_new hP12 ez16 eD16 rfl rfl dX60_init_16 rfl rfl q3547 q1816 q437 (fun hP16 hE16 hz16 hg16 => ?_)
  refine hw_1 (fun k => x_dup dX60_init_19 rfl k) ?_
  replace h := ga_bind_some h; obtain ⟨r20, D20, g20, h⟩ := h
  have hR20 := (h_J9_init_ok (G := G) (hk_pos1 hz16 (by decide)) hP16 g20)
  obtain ⟨hP20, hE20, -⟩ := id hR20
  refine hw_call (rest := [(2, z16), (2, x0)]) hR20 (fun hc hk9 => x_callI (as := []) (rest := [(2, z16), (2, x0)]) dX60_init_20 hc (lw_meth q1819) q437 q3548 q1818 hz16 rfl rfl (show _ ∧ _ ∧ _ = some 0 from by decide +kernel) (by decide) (by decide) rfl (Nat.le_of_ble_eq_true rfl) hk9 aw_nox) ?_
  replace h := ga_let_some h; obtain ⟨D23, eD23, h⟩ := h
  refine hw_set eD23 (Int.le_trans (by decide) (hkge_55 (h_kx hE20 (h_kx hE16 (h_kx hE12 hc12_0 (by decide)) (by decide)) (by decide)))) (by decide) (fun k => x_putfF dX60_init_23 fl_X60_19 rfl rfl (h_kx hE20 (h_kx hE16 (h_kx hE12 hc12_0 (by decide)) (by decide)) (by decide)) (hkge_55 (h_kx hE20 (h_kx hE16 (h_kx hE12 hc12_0 (by decide)) (by decide)) (by decide))) trivial k) ?_
  have hP23 : h_P D23 := hP20.set eD23 (hkge_55 (h_kx hE20 (h_kx hE16 (h_kx hE12 hc12_0 (by decide)) (by decide)) (by decide))) (by decide) (hPn (h_kx hE20 (h_kx hE16 (h_kx hE12 hc12_0 (by decide)) (by decide)) (by decide)) rfl)
  have hE23 : h_E D20 D23 := h_E_set eD23 (by decide)
  obtain ⟨rfl, rfl⟩ := ga_end h
  exact hw_ret hP23 (x_vret dX60_init_26 rfl hq)
theorem h_X59_init_ok {G : aw_G} {D D' : ga_D} {r : Int} {x0 x1 : Int} (hx0 : 0 < x0) (hP : h_P D) (h : h_X59_init x0 x1 D = some (r, D')) : aw_HR yX59_init cX59_init 2 none 6 G [(2, x0), (0, x1)] D none D' := by
  unfold h_X59_init at h
  refine hw_body (own := "WasteHouse$DepositCodes$Machine") (ini := true) (ls := [(0, (2, x0)), (1, (0, x1))]) rfl rfl (fun _ => rfl) (Nat.le_of_ble_eq_true rfl) rfl fun Q hq => ?_
  refine hw_1 (fun k => x_aload_n dX59_init_0 rfl k) ?_
  refine hw_1 (fun k => x_objInit0 dX59_init_1 q3538 q512 q513 hx0 (by decide) (Nat.le_of_ble_eq_true rfl) k) ?_
  refine hw_1 (fun k => x_aload_n dX59_init_4 rfl k) ?_
  replace h := ga_let_some h; obtain ⟨z5, ez5, h⟩ := h
  replace h := ga_let_some h; obtain ⟨D5, eD5, h⟩ := h
  refine hy_new hP ez5 eD5 rfl rfl dX59_init_5 rfl rfl q3539 q3540 q483 (fun hP5 hE5 hz5 hg5 => ?_)
  refine hw_1 (fun k => x_dup dX59_init_8 rfl k) ?_
  replace h := ga_bind_some h; obtain ⟨r9, D9, g9, h⟩ := h
  have hR9 := (h_X60_init_ok (G := G) (hk_pos1 hz5 (by decide)) hP5 g9)
  obtain ⟨hP9, hE9, -⟩ := id hR9
  refine hw_call (rest := [(2, z5), (2, x0)]) hR9 (fun hc hk9 => x_callIN (as := []) (rest := [(2, z5), (2, x0)]) dX59_init_9 hc (lw_meth q3543) q483 q3541 q3542 hz5 rfl rfl (show _ ∧ _ ∧ _ = some 0 from by decide +kernel) (by decide) (by decide) rfl (Nat.le_of_ble_eq_true rfl) hk9 aw_nox) ?_
  replace h := ga_ck_some h; obtain ⟨hc12_0, h⟩ := h
  replace h := ga_let_some h; obtain ⟨D12, eD12, h⟩ := h
  refine hw_set eD12 (Int.le_trans (by decide) (hkge_54 hc12_0)) (by decide) (fun k => x_putf dX59_init_12 fl_X59_12 rfl hc12_0 (hkge_54 hc12_0) trivial k) ?_
  have hP12 : h_P D12 := hP9.set eD12 (hkge_54 hc12_0) (by decide) (hPn hc12_0 rfl)
  have hE12 : h_E D9 D12 := h_E_set eD12 (by decide)
  refine hw_1 (fun k => x_aload_n dX59_init_15 rfl k) ?_
  refine hw_1 (fun k => x_iconst dX59_init_16 (by decide) k) ?_
  replace h := ga_let_some h; obtain ⟨D17, eD17, h⟩ := h
  refine hw_set eD17 (Int.le_trans (by decide) (hkge_54 (h_kx hE12 hc12_0 (by decide)))) (by decide) (fun k => x_putf dX59_init_17 fl_X59_18 rfl (h_kx hE12 hc12_0 (by decide)) (hkge_54 (h_kx hE12 hc12_0 (by decide))) (show (0 : Int) ≤ 1 ∧ (1 : Int) < 2 from by decide) k) ?_
  have hP17 : h_P D17 := hP12.set eD17 (hkge_54 (h_kx hE12 hc12_0 (by decide))) (by decide) (hPn (h_kx hE12 hc12_0 (by decide)) rfl)
  have hE17 : h_E D12 D17 := h_E_set eD17 (by decide)
  refine hw_1 (fun k => x_aload_n dX59_init_20 rfl k) ?_
  refine hw_1 (fun k => x_bipush dX59_init_21 (by decide) k) ?_
  replace h := ga_let_some h; obtain ⟨z23, ez23, h⟩ := h
  replace h := ga_let_some h; obtain ⟨D23, eD23, h⟩ := h
  refine hy_newa (t := 0) hP17 ez23 eD23 rfl rfl dX59_init_23 rfl (by decide) q557 (by decide) (by decide) (fun hP23 hE23 hz23 hg23 => ?_)
  replace h := ga_let_some h; obtain ⟨D25, eD25, h⟩ := h
  refine hw_set eD25 (Int.le_trans (by decide) (hkge_54 (h_kx hE23 (h_kx hE17 (h_kx hE12 hc12_0 (by decide)) (by decide)) (by decide)))) (by decide) (fun k => x_putfF dX59_init_25 fl_X59_22 rfl rfl (h_kx hE23 (h_kx hE17 (h_kx hE12 hc12_0 (by decide)) (by decide)) (by decide)) (hkge_54 (h_kx hE23 (h_kx hE17 (h_kx hE12 hc12_0 (by decide)) (by decide)) (by decide))) trivial k) ?_
  have hP25 : h_P D25 := hP23.set eD25 (hkge_54 (h_kx hE23 (h_kx hE17 (h_kx hE12 hc12_0 (by decide)) (by decide)) (by decide))) (by decide) (hPn (h_kx hE23 (h_kx hE17 (h_kx hE12 hc12_0 (by decide)) (by decide)) (by decide)) rfl)
  have hE25 : h_E D23 D25 := h_E_set eD25 (by decide)
  refine hw_1 (fun k => x_aload_n dX59_init_28 rfl k) ?_
  refine hw_1 (fun k => x_iload_n dX59_init_29 rfl k) ?_
  replace h := ga_let_some h; obtain ⟨D30, eD30, h⟩ := h
  refine hw_set eD30 (Int.le_trans (by decide) (hkge_54 (h_kx hE25 (h_kx hE23 (h_kx hE17 (h_kx hE12 hc12_0 (by decide)) (by decide)) (by decide)) (by decide)))) (by decide) (fun k => x_putfF dX59_init_30 fl_X59_26 rfl rfl (h_kx hE25 (h_kx hE23 (h_kx hE17 (h_kx hE12 hc12_0 (by decide)) (by decide)) (by decide)) (by decide)) (hkge_54 (h_kx hE25 (h_kx hE23 (h_kx hE17 (h_kx hE12 hc12_0 (by decide)) (by decide)) (by decide)) (by decide))) trivial k) ?_
  have hP30 : h_P D30 := hP25.set eD30 (hkge_54 (h_kx hE25 (h_kx hE23 (h_kx hE17 (h_kx hE12 hc12_0 (by decide)) (by decide)) (by decide)) (by decide))) (by decide) (hPn (h_kx hE25 (h_kx hE23 (h_kx hE17 (h_kx hE12 hc12_0 (by decide)) (by decide)) (by decide)) (by decide)) rfl)
  have hE30 : h_E D25 D30 := h_E_set eD30 (by decide)
  refine hw_1 (fun k => x_aload_n dX59_init_33 rfl k) ?_
  refine hw_1 (fun k => x_getf (v := D30 x0 1) dX59_init_34 fl_X59_12 (h_kx hE30 (h_kx hE25 (h_kx hE23 (h_kx hE17 (h_kx hE12 hc12_0 (by decide)) (by decide)) (by decide)) (by decide)) (by decide)) rfl k) ?_
  replace h := ga_ck_some h; obtain ⟨hc37_1, h⟩ := h
  refine hw_1 (fun k => x_getf (v := D30 (D30 x0 1) 1) dX59_init_37 fl_X59_30 hc37_1 rfl k) ?_
  refine hw_1 (fun k => x_iload_n dX59_init_40 rfl k) ?_
  replace h := ga_bind_some h; obtain ⟨r41, D41, g41, h⟩ := h
  have hR41 := (h_J25_valueOf_ok (G := G) hP30 g41)
  obtain ⟨hP41, hE41, -⟩ := id hR41
  refine hw_call (rest := [(2, D30 (D30 x0 1) 1)]) hR41 (fun hc hk9 => x_callS (as := [(0, x1)]) (rest := [(2, D30 (D30 x0 1) 1)]) dX59_init_41 hc (lw_S q3559 q3560 q476 q3561) (show _ ∧ _ ∧ _ = some 1 from by decide +kernel) (by decide) (by decide) rfl (Nat.le_of_ble_eq_true rfl) hk9 aw_nox) ?_
  replace h := ga_ck_some h; obtain ⟨hc44_2, h⟩ := h
  replace h := ga_bind_some h; obtain ⟨r44, D44, g44, h⟩ := h
  have hR44 := (h_J9_add_ok (G := G) hP41 g44)
  obtain ⟨hP44, hE44, -⟩ := id hR44
  refine hw_call (rest := []) hR44 (fun hc hk9 => x_callV (as := [(2, r41)]) (rest := []) dX59_init_44 hc (lw_V q3578 q3579 q3580 q437 q3581) hc44_2 rfl rfl (show _ ∧ _ ∧ _ ∧ _ = some 1 from by decide +kernel) (by decide) (by decide) rfl (Nat.le_of_ble_eq_true rfl) hk9 aw_nox) ?_
  refine hw_1 (fun k => x_pop dX59_init_47 rfl k) ?_
  obtain ⟨rfl, rfl⟩ := ga_end h
  exact hw_ret hP44 (x_vret dX59_init_48 rfl hq)
theorem h_X34_machine_ok {G : aw_G} {D D' : ga_D} {r : Int} (hP : h_P D) (h : h_X34_machine D = some (r, D')) : aw_HR yX34_machine cX34_machine 1 (some (.int)) 13 G [(2, 5028)] D (some (0, r)) D' := by
  unfold h_X34_machine at h
  refine hw_body (own := "WasteHouse$DepositCodes") (ini := false) (ls := [(0, (2, 5028))]) rfl rfl (fun h => by cases h) (Nat.le_of_ble_eq_true rfl) rfl fun Q hq => ?_
  refine hw_1 (fun k => x_aload_n dX34_machine_0 rfl k) ?_
  refine hw_1 (fun k => x_getf (v := 5033) dX34_machine_1 fl_X34_19 (hkS (D := D) (show ga_K 5028 = (31, 0) from by decide +kernel) (by decide)) (hP.1 5028 1 5033 (by decide +kernel)) k) ?_
  replace h := ga_bind_some h; obtain ⟨r4, D4, g4, h⟩ := h
  have hR4 := (h_J2_size_ok (G := G) hP g4)
  obtain ⟨hP4, hE4, -⟩ := id hR4
  refine hw_call (rest := []) hR4 (fun hc hk9 => x_callV (as := []) (rest := []) dX34_machine_4 hc (lw_V q3529 q3530 q3531 q401 q3532) (hkS (D := D) (show ga_K 5033 = (60, 0) from by decide +kernel) (by decide)) rfl rfl (show _ ∧ _ ∧ _ ∧ _ = some 0 from by decide +kernel) (by decide) (by decide) rfl (Nat.le_of_ble_eq_true rfl) hk9 aw_nox) ?_
  refine hw_1 (fun k => x_bipush dX34_machine_7 (by decide) k) ?_
  by_cases c9 : r4 ≠ 6
  · rw [if_pos c9] at h
    refine hw_1 (fun k => x_icmp_ne (tgt := 14) dX34_machine_9 (by decide) (fun _ => k) (fun z => absurd c9 z)) ?_
    refine hw_1 (fun k => x_aload_n dX34_machine_14 rfl k) ?_
    refine hw_1 (fun k => x_getf (v := 5033) dX34_machine_15 fl_X34_19 (hkS (D := D4) (show ga_K 5028 = (31, 0) from by decide +kernel) (by decide)) (hP4.1 5028 1 5033 (by decide +kernel)) k) ?_
    replace h := ga_let_some h; obtain ⟨z18, ez18, h⟩ := h
    replace h := ga_let_some h; obtain ⟨D18, eD18, h⟩ := h
    refine hy_new hP4 ez18 eD18 rfl rfl dX34_machine_18 rfl rfl q3533 q3534 q482 (fun hP18 hE18 hz18 hg18 => ?_)
    refine hw_1 (fun k => x_dup dX34_machine_21 rfl k) ?_
    refine hw_1 (fun k => x_aload_n dX34_machine_22 rfl k) ?_
    refine hw_1 (fun k => x_getf (v := 5033) dX34_machine_23 fl_X34_19 (hkS (D := D18) (show ga_K 5028 = (31, 0) from by decide +kernel) (by decide)) (hP18.1 5028 1 5033 (by decide +kernel)) k) ?_
    replace h := ga_bind_some h; obtain ⟨r26, D26, g26, h⟩ := h
    have hR26 := (h_J2_size_ok (G := G) hP18 g26)
    obtain ⟨hP26, hE26, -⟩ := id hR26
    refine hw_call (rest := [(2, z18), (2, z18), (2, 5033)]) hR26 (fun hc hk9 => x_callV (as := []) (rest := [(2, z18), (2, z18), (2, 5033)]) dX34_machine_26 hc (lw_V q3529 q3530 q3531 q401 q3532) (hkS (D := D18) (show ga_K 5033 = (60, 0) from by decide +kernel) (by decide)) rfl rfl (show _ ∧ _ ∧ _ ∧ _ = some 0 from by decide +kernel) (by decide) (by decide) rfl (Nat.le_of_ble_eq_true rfl) hk9 aw_nox) ?_
    replace h := ga_bind_some h; obtain ⟨r29, D29, g29, h⟩ := h
    have hR29 := (h_X59_init_ok (G := G) (hk_pos1 (h_kx hE26 hz18 (by decide)) (by decide)) hP26 g29)
    obtain ⟨hP29, hE29, -⟩ := id hR29
    refine hw_call (rest := [(2, z18), (2, 5033)]) hR29 (fun hc hk9 => x_callI (as := [(0, r26)]) (rest := [(2, z18), (2, 5033)]) dX34_machine_29 hc (lw_meth q3537) q482 q3535 q3536 (h_kx hE26 hz18 (by decide)) rfl rfl (show _ ∧ _ ∧ _ = some 1 from by decide +kernel) (by decide) (by decide) rfl (Nat.le_of_ble_eq_true rfl) hk9 aw_nox) ?_
    replace h := ga_bind_some h; obtain ⟨r32, D32, g32, h⟩ := h
    have hR32 := (h_J2_add_ok (G := G) hP29 g32)
    obtain ⟨hP32, hE32, -⟩ := id hR32
    refine hw_call (rest := []) hR32 (fun hc hk9 => x_callV (as := [(2, z18)]) (rest := []) dX34_machine_32 hc (lw_V q4148 q1941 q1942 q401 q1943) (hkS (D := D29) (show ga_K 5033 = (60, 0) from by decide +kernel) (by decide)) rfl rfl (show _ ∧ _ ∧ _ ∧ _ = some 1 from by decide +kernel) (by decide) (by decide) rfl (Nat.le_of_ble_eq_true rfl) hk9 aw_nox) ?_
    refine hw_1 (fun k => x_pop dX34_machine_35 rfl k) ?_
    refine hw_1 (fun k => x_aload_n dX34_machine_36 rfl k) ?_
    refine hw_1 (fun k => x_getf (v := 5033) dX34_machine_37 fl_X34_19 (hkS (D := D32) (show ga_K 5028 = (31, 0) from by decide +kernel) (by decide)) (hP32.1 5028 1 5033 (by decide +kernel)) k) ?_
    replace h := ga_bind_some h; obtain ⟨r40, D40, g40, h⟩ := h
    have hR40 := (h_J2_size_ok (G := G) hP32 g40)
    obtain ⟨hP40, hE40, -⟩ := id hR40
    refine hw_call (rest := []) hR40 (fun hc hk9 => x_callV (as := []) (rest := []) dX34_machine_40 hc (lw_V q3529 q3530 q3531 q401 q3532) (hkS (D := D32) (show ga_K 5033 = (60, 0) from by decide +kernel) (by decide)) rfl rfl (show _ ∧ _ ∧ _ ∧ _ = some 0 from by decide +kernel) (by decide) (by decide) rfl (Nat.le_of_ble_eq_true rfl) hk9 aw_nox) ?_
    refine hw_1 (fun k => x_iconst dX34_machine_43 (by decide) k) ?_
    refine hw_1 (fun k => x_isub dX34_machine_44 rfl k) ?_
    obtain ⟨rfl, rfl⟩ := ga_end h
    exact hw_ret hP40 (x_iret dX34_machine_45 rfl rfl trivial hq)
  · rw [if_neg c9] at h
    refine hw_1 (fun k => x_icmp_ne (tgt := 14) dX34_machine_9 (by decide) (fun z => absurd z c9) (fun _ => k)) ?_
    refine hw_1 (fun k => x_iconst dX34_machine_12 (by decide) k) ?_
    obtain ⟨rfl, rfl⟩ := ga_end h
    exact hw_ret hP4 (x_iret dX34_machine_13 rfl rfl trivial hq)
theorem h_X61_init_ok {G : aw_G} {D D' : ga_D} {r : Int} {x0 x1 x2 : Int} (hx0 : 0 < x0) (hP : h_P D) (h : h_X61_init x0 x1 x2 D = some (r, D')) : aw_HR yX61_init cX61_init 3 none 1 G [(2, x0), (0, x1), (0, x2)] D none D' := by
  unfold h_X61_init at h
  refine hw_body (own := "WasteHouse$DepositCodes$Span") (ini := true) (ls := [(0, (2, x0)), (1, (0, x1)), (2, (0, x2))]) rfl rfl (fun _ => rfl) (Nat.le_of_ble_eq_true rfl) rfl fun Q hq => ?_
  refine hw_1 (fun k => x_aload_n dX61_init_0 rfl k) ?_
  refine hw_1 (fun k => x_objInit0 dX61_init_1 q4158 q512 q513 hx0 (by decide) (Nat.le_of_ble_eq_true rfl) k) ?_
  refine hw_1 (fun k => x_aload_n dX61_init_4 rfl k) ?_
  refine hw_1 (fun k => x_iload_n dX61_init_5 rfl k) ?_
  replace h := ga_ck_some h; obtain ⟨hc6_0, h⟩ := h
  replace h := ga_let_some h; obtain ⟨D6, eD6, h⟩ := h
  refine hw_set eD6 (Int.le_trans (by decide) (hkge_56 hc6_0)) (by decide) (fun k => x_putfF dX61_init_6 fl_X61_7 rfl rfl hc6_0 (hkge_56 hc6_0) trivial k) ?_
  have hP6 : h_P D6 := hP.set eD6 (hkge_56 hc6_0) (by decide) (hPn hc6_0 rfl)
  have hE6 : h_E D D6 := h_E_set eD6 (by decide)
  refine hw_1 (fun k => x_aload_n dX61_init_9 rfl k) ?_
  refine hw_1 (fun k => x_iload_n dX61_init_10 rfl k) ?_
  replace h := ga_let_some h; obtain ⟨D11, eD11, h⟩ := h
  refine hw_set eD11 (Int.le_trans (by decide) (hkge_56 (h_kx hE6 hc6_0 (by decide)))) (by decide) (fun k => x_putfF dX61_init_11 fl_X61_13 rfl rfl (h_kx hE6 hc6_0 (by decide)) (hkge_56 (h_kx hE6 hc6_0 (by decide))) trivial k) ?_
  have hP11 : h_P D11 := hP6.set eD11 (hkge_56 (h_kx hE6 hc6_0 (by decide))) (by decide) (hPn (h_kx hE6 hc6_0 (by decide)) rfl)
  have hE11 : h_E D6 D11 := h_E_set eD11 (by decide)
  obtain ⟨rfl, rfl⟩ := ga_end h
  exact hw_ret hP11 (x_vret dX61_init_14 rfl hq)
theorem h_X34_shape_ok {G : aw_G} {D D' : ga_D} {r : Int} {x1 x2 x3 : Int} (hP : h_P D) (h : h_X34_shape x1 x2 x3 D = some (r, D')) : aw_HR yX34_shape cX34_shape 4 (some (.boolean)) 2 G [(2, 5028), (0, x1), (0, x2), (0, x3)] D (some (0, r)) D' := by
  unfold h_X34_shape at h
  refine hw_body (own := "WasteHouse$DepositCodes") (ini := false) (ls := [(0, (2, 5028)), (1, (0, x1)), (2, (0, x2)), (3, (0, x3))]) rfl rfl (fun h => by cases h) (Nat.le_of_ble_eq_true rfl) rfl fun Q hq => ?_
  refine hw_1 (fun k => x_iload_n dX34_shape_0 rfl k) ?_
  by_cases c1 : x1 < 0
  · rw [if_pos c1] at h
    refine hw_1 (fun k => x_if_lt (tgt := 25) dX34_shape_1 (by decide) (fun _ => k) (fun z => absurd c1 z)) ?_
    refine hw_1 (fun k => x_iconst dX34_shape_25 (by decide) k) ?_
    obtain ⟨rfl, rfl⟩ := ga_end h
    exact hw_ret hP (x_iret dX34_shape_26 rfl rfl (show (0 : Int) ≤ 0 ∧ (0 : Int) < 2 from by decide) hq)
  · rw [if_neg c1] at h
    refine hw_1 (fun k => x_if_lt (tgt := 25) dX34_shape_1 (by decide) (fun z => absurd z c1) (fun _ => k)) ?_
    refine hw_1 (fun k => x_iload_n dX34_shape_4 rfl k) ?_
    refine hw_1 (fun k => x_bipush dX34_shape_5 (by decide) k) ?_
    by_cases c7 : 8 ≤ x1
    · rw [if_pos c7] at h
      refine hw_1 (fun k => x_icmp_ge (tgt := 25) dX34_shape_7 (by decide) (fun _ => k) (fun z => absurd c7 z)) ?_
      refine hw_1 (fun k => x_iconst dX34_shape_25 (by decide) k) ?_
      obtain ⟨rfl, rfl⟩ := ga_end h
      exact hw_ret hP (x_iret dX34_shape_26 rfl rfl (show (0 : Int) ≤ 0 ∧ (0 : Int) < 2 from by decide) hq)
    · rw [if_neg c7] at h
      refine hw_1 (fun k => x_icmp_ge (tgt := 25) dX34_shape_7 (by decide) (fun z => absurd z c7) (fun _ => k)) ?_
      refine hw_1 (fun k => x_iload_n dX34_shape_10 rfl k) ?_
      by_cases c11 : x2 < 0
      · rw [if_pos c11] at h
        refine hw_1 (fun k => x_if_lt (tgt := 25) dX34_shape_11 (by decide) (fun _ => k) (fun z => absurd c11 z)) ?_
        refine hw_1 (fun k => x_iconst dX34_shape_25 (by decide) k) ?_
        obtain ⟨rfl, rfl⟩ := ga_end h
        exact hw_ret hP (x_iret dX34_shape_26 rfl rfl (show (0 : Int) ≤ 0 ∧ (0 : Int) < 2 from by decide) hq)
      · rw [if_neg c11] at h
        refine hw_1 (fun k => x_if_lt (tgt := 25) dX34_shape_11 (by decide) (fun z => absurd z c11) (fun _ => k)) ?_
        refine hw_1 (fun k => x_iload_n dX34_shape_14 rfl k) ?_
        refine hw_1 (fun k => x_iload_n dX34_shape_15 rfl k) ?_
        by_cases c16 : x3 < x2
        · rw [if_pos c16] at h
          refine hw_1 (fun k => x_icmp_gt (tgt := 25) dX34_shape_16 (by decide) (fun _ => k) (fun z => absurd c16 z)) ?_
          refine hw_1 (fun k => x_iconst dX34_shape_25 (by decide) k) ?_
          obtain ⟨rfl, rfl⟩ := ga_end h
          exact hw_ret hP (x_iret dX34_shape_26 rfl rfl (show (0 : Int) ≤ 0 ∧ (0 : Int) < 2 from by decide) hq)
        · rw [if_neg c16] at h
          refine hw_1 (fun k => x_icmp_gt (tgt := 25) dX34_shape_16 (by decide) (fun z => absurd z c16) (fun _ => k)) ?_
          refine hw_1 (fun k => x_iload_n dX34_shape_19 rfl k) ?_
          refine hw_1 (fun k => x_ldc (z := 100000) dX34_shape_20 q4153 (by decide) k) ?_
          by_cases c22 : x3 ≤ 100000
          · rw [if_pos c22] at h
            refine hw_1 (fun k => x_icmp_le (tgt := 27) dX34_shape_22 (by decide) (fun _ => k) (fun z => absurd c22 z)) ?_
            refine hw_1 (fun k => x_aload_n dX34_shape_27 rfl k) ?_
            refine hw_1 (fun k => x_getf (v := 5034) dX34_shape_28 fl_X34_25 (hkS (D := D) (show ga_K 5028 = (31, 0) from by decide +kernel) (by decide)) (hP.1 5028 2 5034 (by decide +kernel)) k) ?_
            refine hw_1 (fun k => x_iload_n dX34_shape_31 rfl k) ?_
            replace h := ga_let_some h; obtain ⟨z32, ez32, h⟩ := h
            replace h := ga_let_some h; obtain ⟨D32, eD32, h⟩ := h
            refine hy_new hP ez32 eD32 rfl rfl dX34_shape_32 rfl rfl q1791 q4154 q491 (fun hP32 hE32 hz32 hg32 => ?_)
            refine hw_1 (fun k => x_dup dX34_shape_35 rfl k) ?_
            refine hw_1 (fun k => x_iload_n dX34_shape_36 rfl k) ?_
            refine hw_1 (fun k => x_iload_n dX34_shape_37 rfl k) ?_
            replace h := ga_bind_some h; obtain ⟨r38, D38, g38, h⟩ := h
            have hR38 := (h_X61_init_ok (G := G) (hk_pos1 hz32 (by decide)) hP32 g38)
            obtain ⟨hP38, hE38, -⟩ := id hR38
            refine hw_call (rest := [(2, z32), (0, x1), (2, 5034)]) hR38 (fun hc hk9 => x_callI (as := [(0, x2), (0, x3)]) (rest := [(2, z32), (0, x1), (2, 5034)]) dX34_shape_38 hc (lw_meth q4157) q491 q4155 q4156 hz32 rfl rfl (show _ ∧ _ ∧ _ = some 2 from by decide +kernel) (by decide) (by decide) rfl (Nat.le_of_ble_eq_true rfl) hk9 aw_nox) ?_
            replace h := ga_ck_some h; obtain ⟨hc41_0, h⟩ := h
            replace h := ga_let_some h; obtain ⟨D41, eD41, h⟩ := h
            refine hw_set eD41 (by decide) hc41_0.1 (fun k => x_aastL (t := 16) (L := [56]) dX34_shape_41 (hkS (D := D38) (show ga_K 5034 = (1016, 8) from by decide +kernel) (by decide)) rfl (by decide) hc41_0.1 hc41_0.2 sbl_WasteHouse_DepositCodes_Span (Or.inr ⟨56, (h_kx hE38 hz32 (by decide)), by decide⟩) k) ?_
            have hP41 : h_P D41 := hP38.set eD41 (by decide) hc41_0.1 (hPn (hkS (D := D38) (show ga_K 5034 = (1016, 8) from by decide +kernel) (by decide)) rfl)
            have hE41 : h_E D38 D41 := h_E_set eD41 hc41_0.1
            refine hw_1 (fun k => x_iconst dX34_shape_42 (by decide) k) ?_
            obtain ⟨rfl, rfl⟩ := ga_end h
            exact hw_ret hP41 (x_iret dX34_shape_43 rfl rfl (show (0 : Int) ≤ 1 ∧ (1 : Int) < 2 from by decide) hq)
          · rw [if_neg c22] at h
            refine hw_1 (fun k => x_icmp_le (tgt := 27) dX34_shape_22 (by decide) (fun z => absurd z c22) (fun _ => k)) ?_
            refine hw_1 (fun k => x_iconst dX34_shape_25 (by decide) k) ?_
            obtain ⟨rfl, rfl⟩ := ga_end h
            exact hw_ret hP (x_iret dX34_shape_26 rfl rfl (show (0 : Int) ≤ 0 ∧ (0 : Int) < 2 from by decide) hq)
theorem h_X34_full_ok {G : aw_G} {D D' : ga_D} {r : Int} {x1 x2 : Int} (hP : h_P D) (h : h_X34_full x1 x2 D = some (r, D')) : aw_HR yX34_full cX34_full 3 (some (.boolean)) 3 G [(2, 5028), (0, x1), (0, x2)] D (some (0, r)) D' := by
  unfold h_X34_full at h
  refine hw_body (own := "WasteHouse$DepositCodes") (ini := false) (ls := [(0, (2, 5028)), (1, (0, x1)), (2, (0, x2))]) rfl rfl (fun h => by cases h) (Nat.le_of_ble_eq_true rfl) rfl fun Q hq => ?_
  refine hw_1 (fun k => x_aload_n dX34_full_0 rfl k) ?_
  refine hw_1 (fun k => x_iload_n dX34_full_1 rfl k) ?_
  replace h := ga_bind_some h; obtain ⟨r2, D2, g2, h⟩ := h
  have hR2 := (h_X34_isMachine_ok (G := G) hP g2)
  obtain ⟨hP2, hE2, -⟩ := id hR2
  refine hw_call (rest := []) hR2 (fun hc hk9 => x_callV (as := [(0, x1)]) (rest := []) dX34_full_2 hc (lw_V q4170 q4172 qs32 q433 q4173) (hkS (D := D) (show ga_K 5028 = (31, 0) from by decide +kernel) (by decide)) rfl rfl (show _ ∧ _ ∧ _ ∧ _ = some 1 from by decide +kernel) (by decide) (by decide) rfl (Nat.le_of_ble_eq_true rfl) hk9 aw_nox) ?_
  by_cases c5 : r2 ≠ 0
  · rw [if_pos c5] at h
    refine hw_1 (fun k => x_if_ne (tgt := 10) dX34_full_5 (by decide) (fun _ => k) (fun z => absurd c5 z)) ?_
    refine hw_1 (fun k => x_aload_n dX34_full_10 rfl k) ?_
    refine hw_1 (fun k => x_getf (v := 5033) dX34_full_11 fl_X34_19 (hkS (D := D2) (show ga_K 5028 = (31, 0) from by decide +kernel) (by decide)) (hP2.1 5028 1 5033 (by decide +kernel)) k) ?_
    refine hw_1 (fun k => x_iload_n dX34_full_14 rfl k) ?_
    replace h := ga_bind_some h; obtain ⟨r15, D15, g15, h⟩ := h
    have hR15 := (h_J2_get_ok (G := G) hP2 g15)
    obtain ⟨hP15, hE15, -⟩ := id hR15
    refine hw_call (rest := []) hR15 (fun hc hk9 => x_callV (as := [(0, x1)]) (rest := []) dX34_full_15 hc (lw_V q4174 q3183 q3184 q401 q3185) (hkS (D := D2) (show ga_K 5033 = (60, 0) from by decide +kernel) (by decide)) rfl rfl (show _ ∧ _ ∧ _ ∧ _ = some 1 from by decide +kernel) (by decide) (by decide) rfl (Nat.le_of_ble_eq_true rfl) hk9 aw_nox) ?_
    replace h := ga_ck_some h; obtain ⟨hc18_0, h⟩ := h
    refine hw_1 (fun k => x_castL (L := [54]) dX34_full_18 q3533 sbl_WasteHouse_DepositCodes_Machine (aw_or1 hc18_0) k) ?_
    refine hw_1 (fun k => x_iload_n dX34_full_21 rfl k) ?_
    replace h := ga_ck_some h; obtain ⟨hc22_1, h⟩ := h
    replace h := ga_ck_some h; obtain ⟨hc22_2, h⟩ := h
    replace h := ga_let_some h; obtain ⟨D22, eD22, h⟩ := h
    refine hw_set eD22 (Int.le_trans (by decide) (hkge_54 hc22_1)) (by decide) (fun k => x_putf dX34_full_22 fl_X34_116 rfl hc22_1 (hkge_54 hc22_1) hc22_2 k) ?_
    have hP22 : h_P D22 := hP15.set eD22 (hkge_54 hc22_1) (by decide) (hPn hc22_1 rfl)
    have hE22 : h_E D15 D22 := h_E_set eD22 (by decide)
    refine hw_1 (fun k => x_iconst dX34_full_25 (by decide) k) ?_
    obtain ⟨rfl, rfl⟩ := ga_end h
    exact hw_ret hP22 (x_iret dX34_full_26 rfl rfl (show (0 : Int) ≤ 1 ∧ (1 : Int) < 2 from by decide) hq)
  · rw [if_neg c5] at h
    refine hw_1 (fun k => x_if_ne (tgt := 10) dX34_full_5 (by decide) (fun z => absurd z c5) (fun _ => k)) ?_
    refine hw_1 (fun k => x_iconst dX34_full_8 (by decide) k) ?_
    obtain ⟨rfl, rfl⟩ := ga_end h
    exact hw_ret hP2 (x_iret dX34_full_9 rfl rfl (show (0 : Int) ≤ 0 ∧ (0 : Int) < 2 from by decide) hq)
theorem h_X34_power_ok {G : aw_G} {D D' : ga_D} {r : Int} {x1 x2 : Int} (hP : h_P D) (h : h_X34_power x1 x2 D = some (r, D')) : aw_HR yX34_power cX34_power 3 (some (.boolean)) 3 G [(2, 5028), (0, x1), (0, x2)] D (some (0, r)) D' := by
  unfold h_X34_power at h
  refine hw_body (own := "WasteHouse$DepositCodes") (ini := false) (ls := [(0, (2, 5028)), (1, (0, x1)), (2, (0, x2))]) rfl rfl (fun h => by cases h) (Nat.le_of_ble_eq_true rfl) rfl fun Q hq => ?_
  refine hw_1 (fun k => x_aload_n dX34_power_0 rfl k) ?_
  refine hw_1 (fun k => x_iload_n dX34_power_1 rfl k) ?_
  replace h := ga_bind_some h; obtain ⟨r2, D2, g2, h⟩ := h
  have hR2 := (h_X34_isMachine_ok (G := G) hP g2)
  obtain ⟨hP2, hE2, -⟩ := id hR2
  refine hw_call (rest := []) hR2 (fun hc hk9 => x_callV (as := [(0, x1)]) (rest := []) dX34_power_2 hc (lw_V q4170 q4172 qs32 q433 q4173) (hkS (D := D) (show ga_K 5028 = (31, 0) from by decide +kernel) (by decide)) rfl rfl (show _ ∧ _ ∧ _ ∧ _ = some 1 from by decide +kernel) (by decide) (by decide) rfl (Nat.le_of_ble_eq_true rfl) hk9 aw_nox) ?_
  by_cases c5 : r2 ≠ 0
  · rw [if_pos c5] at h
    refine hw_1 (fun k => x_if_ne (tgt := 10) dX34_power_5 (by decide) (fun _ => k) (fun z => absurd c5 z)) ?_
    refine hw_1 (fun k => x_aload_n dX34_power_10 rfl k) ?_
    refine hw_1 (fun k => x_getf (v := 5033) dX34_power_11 fl_X34_19 (hkS (D := D2) (show ga_K 5028 = (31, 0) from by decide +kernel) (by decide)) (hP2.1 5028 1 5033 (by decide +kernel)) k) ?_
    refine hw_1 (fun k => x_iload_n dX34_power_14 rfl k) ?_
    replace h := ga_bind_some h; obtain ⟨r15, D15, g15, h⟩ := h
    have hR15 := (h_J2_get_ok (G := G) hP2 g15)
    obtain ⟨hP15, hE15, -⟩ := id hR15
    refine hw_call (rest := []) hR15 (fun hc hk9 => x_callV (as := [(0, x1)]) (rest := []) dX34_power_15 hc (lw_V q4174 q3183 q3184 q401 q3185) (hkS (D := D2) (show ga_K 5033 = (60, 0) from by decide +kernel) (by decide)) rfl rfl (show _ ∧ _ ∧ _ ∧ _ = some 1 from by decide +kernel) (by decide) (by decide) rfl (Nat.le_of_ble_eq_true rfl) hk9 aw_nox) ?_
    replace h := ga_ck_some h; obtain ⟨hc18_0, h⟩ := h
    refine hw_1 (fun k => x_castL (L := [54]) dX34_power_18 q3533 sbl_WasteHouse_DepositCodes_Machine (aw_or1 hc18_0) k) ?_
    refine hw_1 (fun k => x_iload_n dX34_power_21 rfl k) ?_
    replace h := ga_ck_some h; obtain ⟨hc22_1, h⟩ := h
    replace h := ga_ck_some h; obtain ⟨hc22_2, h⟩ := h
    replace h := ga_let_some h; obtain ⟨D22, eD22, h⟩ := h
    refine hw_set eD22 (Int.le_trans (by decide) (hkge_54 hc22_1)) (by decide) (fun k => x_putf dX34_power_22 fl_X34_120 rfl hc22_1 (hkge_54 hc22_1) hc22_2 k) ?_
    have hP22 : h_P D22 := hP15.set eD22 (hkge_54 hc22_1) (by decide) (hPn hc22_1 rfl)
    have hE22 : h_E D15 D22 := h_E_set eD22 (by decide)
    refine hw_1 (fun k => x_iconst dX34_power_25 (by decide) k) ?_
    obtain ⟨rfl, rfl⟩ := ga_end h
    exact hw_ret hP22 (x_iret dX34_power_26 rfl rfl (show (0 : Int) ≤ 1 ∧ (1 : Int) < 2 from by decide) hq)
  · rw [if_neg c5] at h
    refine hw_1 (fun k => x_if_ne (tgt := 10) dX34_power_5 (by decide) (fun z => absurd z c5) (fun _ => k)) ?_
    refine hw_1 (fun k => x_iconst dX34_power_8 (by decide) k) ?_
    obtain ⟨rfl, rfl⟩ := ga_end h
    exact hw_ret hP2 (x_iret dX34_power_9 rfl rfl (show (0 : Int) ≤ 0 ∧ (0 : Int) < 2 from by decide) hq)
theorem h_X34_reason_ok {G : aw_G} {D D' : ga_D} {r : Int} (hP : h_P D) (h : h_X34_reason D = some (r, D')) : aw_HR yX34_reason cX34_reason 1 (some (.int)) 0 G [(2, 5028)] D (some (0, r)) D' := by
  unfold h_X34_reason at h
  refine hw_body (own := "WasteHouse$DepositCodes") (ini := false) (ls := [(0, (2, 5028))]) rfl rfl (fun h => by cases h) (Nat.le_of_ble_eq_true rfl) rfl fun Q hq => ?_
  refine hw_1 (fun k => x_aload_n dX34_reason_0 rfl k) ?_
  refine hw_1 (fun k => x_getf (v := D 5028 12) dX34_reason_1 fl_X34_153 (hkS (D := D) (show ga_K 5028 = (31, 0) from by decide +kernel) (by decide)) rfl k) ?_
  obtain ⟨rfl, rfl⟩ := ga_end h
  exact hw_ret hP (x_iret dX34_reason_4 rfl rfl trivial hq)
theorem h_X34_count_ok {G : aw_G} {D D' : ga_D} {r : Int} {x1 x2 : Int} (hP : h_P D) (h : h_X34_count x1 x2 D = some (r, D')) : aw_HR yX34_count cX34_count 3 (some (.long)) 3 G [(2, 5028), (0, x1), (0, x2)] D (some (1, r)) D' := by
  unfold h_X34_count at h
  refine hw_body (own := "WasteHouse$DepositCodes") (ini := false) (ls := [(0, (2, 5028)), (1, (0, x1)), (2, (0, x2))]) rfl rfl (fun h => by cases h) (Nat.le_of_ble_eq_true rfl) rfl fun Q hq => ?_
  refine hw_1 (fun k => x_aload_n dX34_count_0 rfl k) ?_
  refine hw_1 (fun k => x_iload_n dX34_count_1 rfl k) ?_
  replace h := ga_bind_some h; obtain ⟨r2, D2, g2, h⟩ := h
  have hR2 := (h_X34_isMachine_ok (G := G) hP g2)
  obtain ⟨hP2, hE2, -⟩ := id hR2
  refine hw_call (rest := []) hR2 (fun hc hk9 => x_callV (as := [(0, x1)]) (rest := []) dX34_count_2 hc (lw_V q4170 q4172 qs32 q433 q4173) (hkS (D := D) (show ga_K 5028 = (31, 0) from by decide +kernel) (by decide)) rfl rfl (show _ ∧ _ ∧ _ ∧ _ = some 1 from by decide +kernel) (by decide) (by decide) rfl (Nat.le_of_ble_eq_true rfl) hk9 aw_nox) ?_
  by_cases c5 : r2 = 0
  · rw [if_pos c5] at h
    refine hw_1 (fun k => x_if_eq (tgt := 18) dX34_count_5 (by decide) (fun _ => k) (fun z => absurd c5 z)) ?_
    refine hw_1 (fun k => x_ldc2 (z := (-1)) dX34_count_18 q4370 (by decide) k) ?_
    refine hw_1 (fun k => x_goto (tgt := 41) dX34_count_21 (by decide) k) ?_
    obtain ⟨rfl, rfl⟩ := ga_end h
    exact hw_ret hP2 (x_lret dX34_count_41 rfl hq)
  · rw [if_neg c5] at h
    refine hw_1 (fun k => x_if_eq (tgt := 18) dX34_count_5 (by decide) (fun z => absurd z c5) (fun _ => k)) ?_
    refine hw_1 (fun k => x_iload_n dX34_count_8 rfl k) ?_
    by_cases c9 : x2 < 0
    · rw [if_pos c9] at h
      refine hw_1 (fun k => x_if_lt (tgt := 18) dX34_count_9 (by decide) (fun _ => k) (fun z => absurd c9 z)) ?_
      refine hw_1 (fun k => x_ldc2 (z := (-1)) dX34_count_18 q4370 (by decide) k) ?_
      refine hw_1 (fun k => x_goto (tgt := 41) dX34_count_21 (by decide) k) ?_
      obtain ⟨rfl, rfl⟩ := ga_end h
      exact hw_ret hP2 (x_lret dX34_count_41 rfl hq)
    · rw [if_neg c9] at h
      refine hw_1 (fun k => x_if_lt (tgt := 18) dX34_count_9 (by decide) (fun z => absurd z c9) (fun _ => k)) ?_
      refine hw_1 (fun k => x_iload_n dX34_count_12 rfl k) ?_
      refine hw_1 (fun k => x_bipush dX34_count_13 (by decide) k) ?_
      by_cases c15 : x2 < 8
      · rw [if_pos c15] at h
        refine hw_1 (fun k => x_icmp_lt (tgt := 24) dX34_count_15 (by decide) (fun _ => k) (fun z => absurd c15 z)) ?_
        refine hw_1 (fun k => x_aload_n dX34_count_24 rfl k) ?_
        refine hw_1 (fun k => x_getf (v := 5033) dX34_count_25 fl_X34_19 (hkS (D := D2) (show ga_K 5028 = (31, 0) from by decide +kernel) (by decide)) (hP2.1 5028 1 5033 (by decide +kernel)) k) ?_
        refine hw_1 (fun k => x_iload_n dX34_count_28 rfl k) ?_
        replace h := ga_bind_some h; obtain ⟨r29, D29, g29, h⟩ := h
        have hR29 := (h_J2_get_ok (G := G) hP2 g29)
        obtain ⟨hP29, hE29, -⟩ := id hR29
        refine hw_call (rest := []) hR29 (fun hc hk9 => x_callV (as := [(0, x1)]) (rest := []) dX34_count_29 hc (lw_V q4174 q3183 q3184 q401 q3185) (hkS (D := D2) (show ga_K 5033 = (60, 0) from by decide +kernel) (by decide)) rfl rfl (show _ ∧ _ ∧ _ ∧ _ = some 1 from by decide +kernel) (by decide) (by decide) rfl (Nat.le_of_ble_eq_true rfl) hk9 aw_nox) ?_
        replace h := ga_ck_some h; obtain ⟨hc32_0, h⟩ := h
        refine hw_1 (fun k => x_castL (L := [54]) dX34_count_32 q3533 sbl_WasteHouse_DepositCodes_Machine (aw_or1 hc32_0) k) ?_
        replace h := ga_ck_some h; obtain ⟨hc35_1, h⟩ := h
        refine hw_1 (fun k => x_getf (v := D29 r29 4) dX34_count_35 fl_X34_184 hc35_1 rfl k) ?_
        refine hw_1 (fun k => x_iload_n dX34_count_38 rfl k) ?_
        replace h := ga_ck_some h; obtain ⟨hc39_2, h⟩ := h
        replace h := ga_ck_some h; obtain ⟨hc39_3, h⟩ := h
        refine hw_1 (fun k => x_iald (v := D29 (D29 r29 4) x2) dX34_count_39 (hk_p hc39_2) hc39_3.1 hc39_3.2 rfl k) ?_
        refine hw_1 (fun k => x_i2l dX34_count_40 rfl k) ?_
        obtain ⟨rfl, rfl⟩ := ga_end h
        exact hw_ret hP29 (x_lret dX34_count_41 rfl hq)
      · rw [if_neg c15] at h
        refine hw_1 (fun k => x_icmp_lt (tgt := 24) dX34_count_15 (by decide) (fun z => absurd z c15) (fun _ => k)) ?_
        refine hw_1 (fun k => x_ldc2 (z := (-1)) dX34_count_18 q4370 (by decide) k) ?_
        refine hw_1 (fun k => x_goto (tgt := 41) dX34_count_21 (by decide) k) ?_
        obtain ⟨rfl, rfl⟩ := ga_end h
        exact hw_ret hP2 (x_lret dX34_count_41 rfl hq)
theorem h_X62_init_ok {G : aw_G} {D D' : ga_D} {r : Int} {x0 x1 x3 x4 : Int} (hx0 : 0 < x0) (hP : h_P D) (h : h_X62_init x0 x1 x3 x4 D = some (r, D')) : aw_HR yX62_init cX62_init 5 none 1 G [(2, x0), (1, x1), (0, x3), (0, x4)] D none D' := by
  unfold h_X62_init at h
  refine hw_body (own := "WasteHouse$DepositCodes$Twice") (ini := true) (ls := [(0, (2, x0)), (1, (1, x1)), (3, (0, x3)), (4, (0, x4))]) rfl rfl (fun _ => rfl) (Nat.le_of_ble_eq_true rfl) rfl fun Q hq => ?_
  refine hw_1 (fun k => x_aload_n dX62_init_0 rfl k) ?_
  refine hw_1 (fun k => x_objInit0 dX62_init_1 q4536 q512 q513 hx0 (by decide) (Nat.le_of_ble_eq_true rfl) k) ?_
  refine hw_1 (fun k => x_aload_n dX62_init_4 rfl k) ?_
  refine hw_1 (fun k => x_lload_n dX62_init_5 rfl k) ?_
  replace h := ga_ck_some h; obtain ⟨hc6_0, h⟩ := h
  replace h := ga_let_some h; obtain ⟨D6, eD6, h⟩ := h
  refine hw_set eD6 (Int.le_trans (by decide) (hkge_57 hc6_0)) (by decide) (fun k => x_putfF dX62_init_6 fl_X62_9 rfl rfl hc6_0 (hkge_57 hc6_0) trivial k) ?_
  have hP6 : h_P D6 := hP.set eD6 (hkge_57 hc6_0) (by decide) (hPn hc6_0 rfl)
  have hE6 : h_E D D6 := h_E_set eD6 (by decide)
  refine hw_1 (fun k => x_aload_n dX62_init_9 rfl k) ?_
  refine hw_1 (fun k => x_iload_n dX62_init_10 rfl k) ?_
  replace h := ga_let_some h; obtain ⟨D11, eD11, h⟩ := h
  refine hw_set eD11 (Int.le_trans (by decide) (hkge_57 (h_kx hE6 hc6_0 (by decide)))) (by decide) (fun k => x_putfF dX62_init_11 fl_X62_15 rfl rfl (h_kx hE6 hc6_0 (by decide)) (hkge_57 (h_kx hE6 hc6_0 (by decide))) trivial k) ?_
  have hP11 : h_P D11 := hP6.set eD11 (hkge_57 (h_kx hE6 hc6_0 (by decide))) (by decide) (hPn (h_kx hE6 hc6_0 (by decide)) rfl)
  have hE11 : h_E D6 D11 := h_E_set eD11 (by decide)
  refine hw_1 (fun k => x_aload_n dX62_init_14 rfl k) ?_
  refine hw_1 (fun k => x_iload dX62_init_15 rfl k) ?_
  replace h := ga_let_some h; obtain ⟨D17, eD17, h⟩ := h
  refine hw_set eD17 (Int.le_trans (by decide) (hkge_57 (h_kx hE11 (h_kx hE6 hc6_0 (by decide)) (by decide)))) (by decide) (fun k => x_putfF dX62_init_17 fl_X62_19 rfl rfl (h_kx hE11 (h_kx hE6 hc6_0 (by decide)) (by decide)) (hkge_57 (h_kx hE11 (h_kx hE6 hc6_0 (by decide)) (by decide))) trivial k) ?_
  have hP17 : h_P D17 := hP11.set eD17 (hkge_57 (h_kx hE11 (h_kx hE6 hc6_0 (by decide)) (by decide))) (by decide) (hPn (h_kx hE11 (h_kx hE6 hc6_0 (by decide)) (by decide)) rfl)
  have hE17 : h_E D11 D17 := h_E_set eD17 (by decide)
  obtain ⟨rfl, rfl⟩ := ga_end h
  exact hw_ret hP17 (x_vret dX62_init_20 rfl hq)
theorem h_X34_join_l75_ok {G : aw_G} {M0 : aw_M} {D' : ga_D} {Q : Option aw_V → aw_M → Prop} {r : Int} (hq : Q (some (0, r)) (hM D')) {k180 : Int → Int → Int → ga_D → ga_S} (hk180 : ∀ (x3 x4 x5 : Int) (D : ga_D), h_P D → k180 x3 x4 x5 D = some (r, D') → aw_HW G "WasteHouse$DepositCodes" cX34_join (some (.int)) 9 14 false M0 Q aw_no D' (hn D') (hsl D') 180 [(0, (2, 5028)), (3, (2, x3)), (4, (2, x4)), (5, (0, x5))] [] D) : ∀ {n : Nat} {x3 x4 x5 x6 : Int} {D : ga_D}, h_P D → h_X34_join_l75 n x3 x4 x5 x6 D k180 = some (r, D') → aw_HW G "WasteHouse$DepositCodes" cX34_join (some (.int)) 9 14 false M0 Q aw_no D' (hn D') (hsl D') 75 [(0, (2, 5028)), (3, (2, x3)), (4, (2, x4)), (5, (0, x5)), (6, (2, x6))] [] D := by
  intro n
  induction n with
  | zero => intro x3 x4 x5 x6 D hP h; exact absurd (h : (none : ga_S) = some (r, D')) (by intro h; cases h)
  | succ n ih =>
    intro x3 x4 x5 x6 D hP h
    have ih : ∀ (x3 x4 x5 x6 : Int) (D : ga_D), h_P D → h_X34_join_l75 n x3 x4 x5 x6 D k180 = some (r, D') → aw_HW G "WasteHouse$DepositCodes" cX34_join (some (.int)) 9 14 false M0 Q aw_no D' (hn D') (hsl D') 75 [(0, (2, 5028)), (3, (2, x3)), (4, (2, x4)), (5, (0, x5)), (6, (2, x6))] [] D := fun x3 x4 x5 x6 D hP h => ih hP h
    replace h : (ga_bind (if hk D x6 = (71, 0) then (h_J26_hasNext x6 D) else if hk D x6 = (78, 0) then (h_J37_hasNext x6 D) else if hk D x6 = (80, 0) then (h_J40_hasNext x6 D) else if hk D x6 = (82, 0) then (h_J43_hasNext x6 D) else none) (fun r77 D77 => if r77 = 0 then (k180 x3 x4 x5 D77) else (ga_bind (if hk D77 x6 = (71, 0) then (h_J26_next x6 D77) else if hk D77 x6 = (78, 0) then (h_J38_next x6 D77) else if hk D77 x6 = (80, 0) then (h_J41_next x6 D77) else if hk D77 x6 = (82, 0) then (h_J43_next x6 D77) else none) (fun r87 D87 => ga_ck (r87 = 0 ∨ hk D87 r87 = (74, 0) ∨ hk D87 r87 = (75, 0) ∨ hk D87 r87 = (76, 0) ∨ hk D87 r87 = (83, 0)) (ga_ck (hk D87 x3 = (55, 0)) (ga_bind (if hk D87 r87 = (74, 0) then (h_J31_getKey r87 D87) else if hk D87 r87 = (75, 0) then (h_J31_getKey r87 D87) else if hk D87 r87 = (76, 0) then (h_J35_getKey r87 D87) else if hk D87 r87 = (83, 0) then (h_J44_getKey r87 D87) else none) (fun r103 D103 => ga_ck (hk D103 (D87 x3 0) = (61, 0)) (ga_bind (h_J4_get (D87 x3 0) r103 D103) (fun r108 D108 => ga_ck (r108 = 0 ∨ hk D108 r108 = (70, 0)) (if r108 = 0 then (h_X34_join_l75 n x3 x4 x5 x6 D108 k180) else (ga_let (hn D108) (fun z125 => ga_let (h_new D108 57 0 3) (fun D125 => ga_bind (if hk D125 r87 = (74, 0) then (h_J31_getKey r87 D125) else if hk D125 r87 = (75, 0) then (h_J31_getKey r87 D125) else if hk D125 r87 = (76, 0) then (h_J35_getKey r87 D125) else if hk D125 r87 = (83, 0) then (h_J44_getKey r87 D125) else none) (fun r131 D131 => ga_ck (r131 = 0 ∨ hk D131 r131 = (73, 0)) (ga_ck (hk D131 r131 = (73, 0)) (ga_bind (h_J30_longValue r131 D131) (fun r139 D139 => ga_ck (hk D139 r108 = (70, 0)) (ga_bind (h_J25_intValue r108 D139) (fun r144 D144 => ga_bind (if hk D144 r87 = (74, 0) then (h_J31_getValue r87 D144) else if hk D144 r87 = (75, 0) then (h_J31_getValue r87 D144) else if hk D144 r87 = (76, 0) then (h_J35_getValue r87 D144) else if hk D144 r87 = (83, 0) then (h_J44_getValue r87 D144) else none) (fun r149 D149 => ga_ck (r149 = 0 ∨ hk D149 r149 = (70, 0)) (ga_ck (hk D149 r149 = (70, 0)) (ga_bind (h_J25_intValue r149 D149) (fun r157 D157 => ga_bind (h_X62_init z125 r139 r144 r157 D157) (fun r160 D160 => ga_bind (h_J2_add 5035 z125 D160) (fun r163 D163 => ga_bind (if hk D163 x6 = (71, 0) then (none) else if hk D163 x6 = (78, 0) then (none) else if hk D163 x6 = (80, 0) then (h_J40_remove x6 D163) else if hk D163 x6 = (82, 0) then (none) else none) (fun r169 D169 => ga_let (aw_w32 (x5 + 1)) (fun v174 => h_X34_join_l75 n x3 x4 v174 x6 D169 k180)))))))))))))))))))))))))) : ga_S) = some (r, D') := h
    refine hw_1 (fun k => x_aload dX34_join_75 rfl k) ?_
    replace h := ga_bind_some h; obtain ⟨r77, D77, g77, h⟩ := h
    have hS77 : h_P D77 ∧ h_E D D77 ∧ ∃ mc ms : Nat, hn D + mc = hn D77 ∧ hsl D + ms = hsl D77 ∧ ∀ {c sl : Nat}, aw_W G "WasteHouse$DepositCodes" cX34_join (some (.int)) 9 14 false M0 Q aw_no c sl 82 [(0, (2, 5028)), (3, (2, x3)), (4, (2, x4)), (5, (0, x5)), (6, (2, x6))] [(0, r77)] (hM D77) → aw_W G "WasteHouse$DepositCodes" cX34_join (some (.int)) 9 14 false M0 Q aw_no (c + mc) (sl + ms) 77 [(0, (2, 5028)), (3, (2, x3)), (4, (2, x4)), (5, (0, x5)), (6, (2, x6))] [(2, x6)] (hM D) := by
      by_cases w77_71 : hk D x6 = (71, 0)
      · rw [if_pos w77_71] at g77
        have hR := (h_J26_hasNext_ok (G := G) hP g77)
        exact hw_callM (rest := []) hR (fun hc hk9 => x_callF (C := "java/util/ArrayList$Itr") (as := []) (rest := []) dX34_join_77 hc q2979 q4479 (by decide +kernel) q2975 q2977 q477 q2978 q2976 q2974 w77_71 rfl rfl (show _ = some 0 from by decide +kernel) (by decide) (by decide) rfl (Nat.le_of_ble_eq_true rfl) hk9 aw_nox)
      rw [if_neg w77_71] at g77
      by_cases w77_78 : hk D x6 = (78, 0)
      · rw [if_pos w77_78] at g77
        have hR := (h_J37_hasNext_ok (G := G) hP g77)
        exact hw_callM (rest := []) hR (fun hc hk9 => x_callF (C := "java/util/HashMap$KeyIterator") (as := []) (rest := []) dX34_join_77 hc q2985 q4479 (by decide +kernel) q2981 q2983 q495 q2984 q2982 q2980 w77_78 rfl rfl (show _ = some 0 from by decide +kernel) (by decide) (by decide) rfl (Nat.le_of_ble_eq_true rfl) hk9 aw_nox)
      rw [if_neg w77_78] at g77
      by_cases w77_80 : hk D x6 = (80, 0)
      · rw [if_pos w77_80] at g77
        have hR := (h_J40_hasNext_ok (G := G) hP g77)
        exact hw_callM (rest := []) hR (fun hc hk9 => x_callF (C := "java/util/TreeMap$EntryIterator") (as := []) (rest := []) dX34_join_77 hc q2991 q4479 (by decide +kernel) q2987 q2989 q498 q2990 q2988 q2986 w77_80 rfl rfl (show _ = some 0 from by decide +kernel) (by decide) (by decide) rfl (Nat.le_of_ble_eq_true rfl) hk9 aw_nox)
      rw [if_neg w77_80] at g77
      by_cases w77_82 : hk D x6 = (82, 0)
      · rw [if_pos w77_82] at g77
        have hR := (h_J43_hasNext_ok (G := G) hP g77)
        exact hw_callM (rest := []) hR (fun hc hk9 => x_callF (C := "java/util/ArrayDeque$DeqIterator") (as := []) (rest := []) dX34_join_77 hc q2973 q4479 (by decide +kernel) q2969 q2971 q502 q2972 q2970 q2968 w77_82 rfl rfl (show _ = some 0 from by decide +kernel) (by decide) (by decide) rfl (Nat.le_of_ble_eq_true rfl) hk9 aw_nox)
      rw [if_neg w77_82] at g77
      exact absurd g77 (by intro h; cases h)
    obtain ⟨hP77, hE77, hS77⟩ := hS77
    refine hw_go ⟨hE77, hS77⟩ ?_
    by_cases c82 : r77 = 0
    · rw [if_pos c82] at h
      refine hw_1 (fun k => x_if_eq (tgt := 180) dX34_join_82 (by decide) (fun _ => k) (fun z => absurd c82 z)) ?_
      refine hw_locs [0, 1, 2, 3] (ls' := [(0, (2, 5028)), (3, (2, x3)), (4, (2, x4)), (5, (0, x5))]) rfl ?_
      exact hk180 _ _ _ _ hP77 h
    · rw [if_neg c82] at h
      refine hw_1 (fun k => x_if_eq (tgt := 180) dX34_join_82 (by decide) (fun z => absurd z c82) (fun _ => k)) ?_
      refine hw_1 (fun k => x_aload dX34_join_85 rfl k) ?_
      replace h := ga_bind_some h; obtain ⟨r87, D87, g87, h⟩ := h
      have hS87 : h_P D87 ∧ h_E D77 D87 ∧ ∃ mc ms : Nat, hn D77 + mc = hn D87 ∧ hsl D77 + ms = hsl D87 ∧ ∀ {c sl : Nat}, aw_W G "WasteHouse$DepositCodes" cX34_join (some (.int)) 9 14 false M0 Q aw_no c sl 92 [(0, (2, 5028)), (3, (2, x3)), (4, (2, x4)), (5, (0, x5)), (6, (2, x6))] [(2, r87)] (hM D87) → aw_W G "WasteHouse$DepositCodes" cX34_join (some (.int)) 9 14 false M0 Q aw_no (c + mc) (sl + ms) 87 [(0, (2, 5028)), (3, (2, x3)), (4, (2, x4)), (5, (0, x5)), (6, (2, x6))] [(2, x6)] (hM D77) := by
        by_cases w87_71 : hk D77 x6 = (71, 0)
        · rw [if_pos w87_71] at g87
          have hR := (h_J26_next_ok (G := G) hP77 g87)
          exact hw_callM (rest := []) hR (fun hc hk9 => x_callF (C := "java/util/ArrayList$Itr") (as := []) (rest := []) dX34_join_87 hc q3011 q4481 (by decide +kernel) q3007 q3009 q477 q3010 q3008 q2974 w87_71 rfl rfl (show _ = some 0 from by decide +kernel) (by decide) (by decide) rfl (Nat.le_of_ble_eq_true rfl) hk9 aw_nox)
        rw [if_neg w87_71] at g87
        by_cases w87_78 : hk D77 x6 = (78, 0)
        · rw [if_pos w87_78] at g87
          have hR := (h_J38_next_ok (G := G) hP77 g87)
          exact hw_callM (rest := []) hR (fun hc hk9 => x_callF (C := "java/util/HashMap$KeyIterator") (as := []) (rest := []) dX34_join_87 hc q3020 q4481 (by decide +kernel) q3016 q3018 q496 q3019 q3017 q2980 w87_78 rfl rfl (show _ = some 0 from by decide +kernel) (by decide) (by decide) rfl (Nat.le_of_ble_eq_true rfl) hk9 aw_nox)
        rw [if_neg w87_78] at g87
        by_cases w87_80 : hk D77 x6 = (80, 0)
        · rw [if_pos w87_80] at g87
          have hR := (h_J41_next_ok (G := G) hP77 g87)
          exact hw_callM (rest := []) hR (fun hc hk9 => x_callF (C := "java/util/TreeMap$EntryIterator") (as := []) (rest := []) dX34_join_87 hc q3031 q4481 (by decide +kernel) q3027 q3029 q499 q3030 q3028 q2986 w87_80 rfl rfl (show _ = some 0 from by decide +kernel) (by decide) (by decide) rfl (Nat.le_of_ble_eq_true rfl) hk9 aw_nox)
        rw [if_neg w87_80] at g87
        by_cases w87_82 : hk D77 x6 = (82, 0)
        · rw [if_pos w87_82] at g87
          have hR := (h_J43_next_ok (G := G) hP77 g87)
          exact hw_callM (rest := []) hR (fun hc hk9 => x_callF (C := "java/util/ArrayDeque$DeqIterator") (as := []) (rest := []) dX34_join_87 hc q3000 q4481 (by decide +kernel) q2996 q2998 q502 q2999 q2997 q2968 w87_82 rfl rfl (show _ = some 0 from by decide +kernel) (by decide) (by decide) rfl (Nat.le_of_ble_eq_true rfl) hk9 aw_nox)
        rw [if_neg w87_82] at g87
        exact absurd g87 (by intro h; cases h)
      obtain ⟨hP87, hE87, hS87⟩ := hS87
      refine hw_go ⟨hE87, hS87⟩ ?_
      replace h := ga_ck_some h; obtain ⟨hc92_0, h⟩ := h
      refine hw_1 (fun k => x_castL (L := [74, 75, 76, 83]) dX34_join_92 q4482 sbl_java_util_Map_Entry (aw_or4 hc92_0) k) ?_
      refine hw_1 (fun k => x_astore (ls' := [(7, (2, r87)), (0, (2, 5028)), (3, (2, x3)), (4, (2, x4)), (5, (0, x5)), (6, (2, x6))]) dX34_join_95 (by decide) rfl k) ?_
      refine hw_1 (fun k => x_aload_n dX34_join_97 rfl k) ?_
      replace h := ga_ck_some h; obtain ⟨hc98_1, h⟩ := h
      refine hw_1 (fun k => x_getf (v := D87 x3 0) dX34_join_98 fl_X34_129 hc98_1 rfl k) ?_
      refine hw_1 (fun k => x_aload dX34_join_101 rfl k) ?_
      replace h := ga_bind_some h; obtain ⟨r103, D103, g103, h⟩ := h
      have hS103 : h_P D103 ∧ h_E D87 D103 ∧ ∃ mc ms : Nat, hn D87 + mc = hn D103 ∧ hsl D87 + ms = hsl D103 ∧ ∀ {c sl : Nat}, aw_W G "WasteHouse$DepositCodes" cX34_join (some (.int)) 9 14 false M0 Q aw_no c sl 108 [(7, (2, r87)), (0, (2, 5028)), (3, (2, x3)), (4, (2, x4)), (5, (0, x5)), (6, (2, x6))] [(2, r103), (2, D87 x3 0)] (hM D103) → aw_W G "WasteHouse$DepositCodes" cX34_join (some (.int)) 9 14 false M0 Q aw_no (c + mc) (sl + ms) 103 [(7, (2, r87)), (0, (2, 5028)), (3, (2, x3)), (4, (2, x4)), (5, (0, x5)), (6, (2, x6))] [(2, r87), (2, D87 x3 0)] (hM D87) := by
        by_cases w103_74 : hk D87 r87 = (74, 0)
        · rw [if_pos w103_74] at g103
          have hR := (h_J31_getKey_ok (G := G) hP87 g103)
          exact hw_callM (rest := [(2, D87 x3 0)]) hR (fun hc hk9 => x_callF (C := "java/util/HashMap$Node") (as := []) (rest := [(2, D87 x3 0)]) dX34_join_103 hc q4498 q4484 (by decide +kernel) q4494 q4496 q486 q4497 q4495 q4493 w103_74 rfl rfl (show _ = some 0 from by decide +kernel) (by decide) (by decide) rfl (Nat.le_of_ble_eq_true rfl) hk9 aw_nox)
        rw [if_neg w103_74] at g103
        by_cases w103_75 : hk D87 r87 = (75, 0)
        · rw [if_pos w103_75] at g103
          have hR := (h_J31_getKey_ok (G := G) hP87 g103)
          exact hw_callM (rest := [(2, D87 x3 0)]) hR (fun hc hk9 => x_callF (C := "java/util/HashMap$TreeNode") (as := []) (rest := [(2, D87 x3 0)]) dX34_join_103 hc q4498 q4484 (by decide +kernel) q4500 q4496 q486 q4497 q4501 q4499 w103_75 rfl rfl (show _ = some 0 from by decide +kernel) (by decide) (by decide) rfl (Nat.le_of_ble_eq_true rfl) hk9 aw_nox)
        rw [if_neg w103_75] at g103
        by_cases w103_76 : hk D87 r87 = (76, 0)
        · rw [if_pos w103_76] at g103
          have hR := (h_J35_getKey_ok (G := G) hP87 g103)
          exact hw_callM (rest := [(2, D87 x3 0)]) hR (fun hc hk9 => x_callF (C := "java/util/TreeMap$Entry") (as := []) (rest := [(2, D87 x3 0)]) dX34_join_103 hc q4507 q4484 (by decide +kernel) q4503 q4505 q493 q4506 q4504 q4502 w103_76 rfl rfl (show _ = some 0 from by decide +kernel) (by decide) (by decide) rfl (Nat.le_of_ble_eq_true rfl) hk9 aw_nox)
        rw [if_neg w103_76] at g103
        by_cases w103_83 : hk D87 r87 = (83, 0)
        · rw [if_pos w103_83] at g103
          have hR := (h_J44_getKey_ok (G := G) hP87 g103)
          exact hw_callM (rest := [(2, D87 x3 0)]) hR (fun hc hk9 => x_callF (C := "java/util/AbstractMap$SimpleImmutableEntry") (as := []) (rest := [(2, D87 x3 0)]) dX34_join_103 hc q4492 q4484 (by decide +kernel) q4488 q4490 q503 q4491 q4489 q4487 w103_83 rfl rfl (show _ = some 0 from by decide +kernel) (by decide) (by decide) rfl (Nat.le_of_ble_eq_true rfl) hk9 aw_nox)
        rw [if_neg w103_83] at g103
        exact absurd g103 (by intro h; cases h)
      obtain ⟨hP103, hE103, hS103⟩ := hS103
      refine hw_go ⟨hE103, hS103⟩ ?_
      replace h := ga_ck_some h; obtain ⟨hc108_2, h⟩ := h
      replace h := ga_bind_some h; obtain ⟨r108, D108, g108, h⟩ := h
      have hR108 := (h_J4_get_ok (G := G) hP103 g108)
      obtain ⟨hP108, hE108, -⟩ := id hR108
      refine hw_call (rest := []) hR108 (fun hc hk9 => x_callV (as := [(2, r103)]) (rest := []) dX34_join_108 hc (lw_V q4314 q4315 q4316 q403 q4317) hc108_2 rfl rfl (show _ ∧ _ ∧ _ ∧ _ = some 1 from by decide +kernel) (by decide) (by decide) rfl (Nat.le_of_ble_eq_true rfl) hk9 aw_nox) ?_
      replace h := ga_ck_some h; obtain ⟨hc111_3, h⟩ := h
      refine hw_1 (fun k => x_castL (L := [70]) dX34_join_111 q4327 sbl_java_lang_Integer (aw_or1 hc111_3) k) ?_
      refine hw_1 (fun k => x_astore (ls' := [(8, (2, r108)), (7, (2, r87)), (0, (2, 5028)), (3, (2, x3)), (4, (2, x4)), (5, (0, x5)), (6, (2, x6))]) dX34_join_114 (by decide) rfl k) ?_
      refine hw_1 (fun k => x_aload dX34_join_116 rfl k) ?_
      by_cases c118 : r108 = 0
      · rw [if_pos c118] at h
        refine hw_1 (fun k => x_ifnull (tgt := 177) dX34_join_118 (by decide) (fun _ => k) (fun z => absurd c118 z)) ?_
        refine hw_1 (fun k => x_goto (tgt := 75) dX34_join_177 (by decide) k) ?_
        refine hw_locs [2, 3, 4, 5, 6] (ls' := [(0, (2, 5028)), (3, (2, x3)), (4, (2, x4)), (5, (0, x5)), (6, (2, x6))]) rfl ?_
        exact ih _ _ _ _ _ hP108 h
      · rw [if_neg c118] at h
        refine hw_1 (fun k => x_ifnull (tgt := 177) dX34_join_118 (by decide) (fun z => absurd z c118) (fun _ => k)) ?_
        refine hw_1 (fun k => x_aload_n dX34_join_121 rfl k) ?_
        refine hw_1 (fun k => x_getf (v := 5035) dX34_join_122 fl_X34_29 (hkS (D := D108) (show ga_K 5028 = (31, 0) from by decide +kernel) (by decide)) (hP108.1 5028 3 5035 (by decide +kernel)) k) ?_
        replace h := ga_let_some h; obtain ⟨z125, ez125, h⟩ := h
        replace h := ga_let_some h; obtain ⟨D125, eD125, h⟩ := h
        refine hy_new hP108 ez125 eD125 rfl rfl dX34_join_125 rfl rfl q4508 q4509 q500 (fun hP125 hE125 hz125 hg125 => ?_)
        refine hw_1 (fun k => x_dup dX34_join_128 rfl k) ?_
        refine hw_1 (fun k => x_aload dX34_join_129 rfl k) ?_
        replace h := ga_bind_some h; obtain ⟨r131, D131, g131, h⟩ := h
        have hS131 : h_P D131 ∧ h_E D125 D131 ∧ ∃ mc ms : Nat, hn D125 + mc = hn D131 ∧ hsl D125 + ms = hsl D131 ∧ ∀ {c sl : Nat}, aw_W G "WasteHouse$DepositCodes" cX34_join (some (.int)) 9 14 false M0 Q aw_no c sl 136 [(8, (2, r108)), (7, (2, r87)), (0, (2, 5028)), (3, (2, x3)), (4, (2, x4)), (5, (0, x5)), (6, (2, x6))] [(2, r131), (2, z125), (2, z125), (2, 5035)] (hM D131) → aw_W G "WasteHouse$DepositCodes" cX34_join (some (.int)) 9 14 false M0 Q aw_no (c + mc) (sl + ms) 131 [(8, (2, r108)), (7, (2, r87)), (0, (2, 5028)), (3, (2, x3)), (4, (2, x4)), (5, (0, x5)), (6, (2, x6))] [(2, r87), (2, z125), (2, z125), (2, 5035)] (hM D125) := by
          by_cases w131_74 : hk D125 r87 = (74, 0)
          · rw [if_pos w131_74] at g131
            have hR := (h_J31_getKey_ok (G := G) hP125 g131)
            exact hw_callM (rest := [(2, z125), (2, z125), (2, 5035)]) hR (fun hc hk9 => x_callF (C := "java/util/HashMap$Node") (as := []) (rest := [(2, z125), (2, z125), (2, 5035)]) dX34_join_131 hc q4498 q4484 (by decide +kernel) q4494 q4496 q486 q4497 q4495 q4493 w131_74 rfl rfl (show _ = some 0 from by decide +kernel) (by decide) (by decide) rfl (Nat.le_of_ble_eq_true rfl) hk9 aw_nox)
          rw [if_neg w131_74] at g131
          by_cases w131_75 : hk D125 r87 = (75, 0)
          · rw [if_pos w131_75] at g131
            have hR := (h_J31_getKey_ok (G := G) hP125 g131)
            exact hw_callM (rest := [(2, z125), (2, z125), (2, 5035)]) hR (fun hc hk9 => x_callF (C := "java/util/HashMap$TreeNode") (as := []) (rest := [(2, z125), (2, z125), (2, 5035)]) dX34_join_131 hc q4498 q4484 (by decide +kernel) q4500 q4496 q486 q4497 q4501 q4499 w131_75 rfl rfl (show _ = some 0 from by decide +kernel) (by decide) (by decide) rfl (Nat.le_of_ble_eq_true rfl) hk9 aw_nox)
          rw [if_neg w131_75] at g131
          by_cases w131_76 : hk D125 r87 = (76, 0)
          · rw [if_pos w131_76] at g131
            have hR := (h_J35_getKey_ok (G := G) hP125 g131)
            exact hw_callM (rest := [(2, z125), (2, z125), (2, 5035)]) hR (fun hc hk9 => x_callF (C := "java/util/TreeMap$Entry") (as := []) (rest := [(2, z125), (2, z125), (2, 5035)]) dX34_join_131 hc q4507 q4484 (by decide +kernel) q4503 q4505 q493 q4506 q4504 q4502 w131_76 rfl rfl (show _ = some 0 from by decide +kernel) (by decide) (by decide) rfl (Nat.le_of_ble_eq_true rfl) hk9 aw_nox)
          rw [if_neg w131_76] at g131
          by_cases w131_83 : hk D125 r87 = (83, 0)
          · rw [if_pos w131_83] at g131
            have hR := (h_J44_getKey_ok (G := G) hP125 g131)
            exact hw_callM (rest := [(2, z125), (2, z125), (2, 5035)]) hR (fun hc hk9 => x_callF (C := "java/util/AbstractMap$SimpleImmutableEntry") (as := []) (rest := [(2, z125), (2, z125), (2, 5035)]) dX34_join_131 hc q4492 q4484 (by decide +kernel) q4488 q4490 q503 q4491 q4489 q4487 w131_83 rfl rfl (show _ = some 0 from by decide +kernel) (by decide) (by decide) rfl (Nat.le_of_ble_eq_true rfl) hk9 aw_nox)
          rw [if_neg w131_83] at g131
          exact absurd g131 (by intro h; cases h)
        obtain ⟨hP131, hE131, hS131⟩ := hS131
        refine hw_go ⟨hE131, hS131⟩ ?_
        replace h := ga_ck_some h; obtain ⟨hc136_0, h⟩ := h
        refine hw_1 (fun k => x_castL (L := [73]) dX34_join_136 q4510 sbl_java_lang_Long (aw_or1 hc136_0) k) ?_
        replace h := ga_ck_some h; obtain ⟨hc139_1, h⟩ := h
        replace h := ga_bind_some h; obtain ⟨r139, D139, g139, h⟩ := h
        have hR139 := (h_J30_longValue_ok (G := G) hP131 g139)
        obtain ⟨hP139, hE139, -⟩ := id hR139
        refine hw_call (rest := [(2, z125), (2, z125), (2, 5035)]) hR139 (fun hc hk9 => x_callV (as := []) (rest := [(2, z125), (2, z125), (2, 5035)]) dX34_join_139 hc (lw_V q4511 q3160 q3161 q485 q3162) hc139_1 rfl rfl (show _ ∧ _ ∧ _ ∧ _ = some 0 from by decide +kernel) (by decide) (by decide) rfl (Nat.le_of_ble_eq_true rfl) hk9 aw_nox) ?_
        refine hw_1 (fun k => x_aload dX34_join_142 rfl k) ?_
        replace h := ga_ck_some h; obtain ⟨hc144_2, h⟩ := h
        replace h := ga_bind_some h; obtain ⟨r144, D144, g144, h⟩ := h
        have hR144 := (h_J25_intValue_ok (G := G) hP139 g144)
        obtain ⟨hP144, hE144, -⟩ := id hR144
        refine hw_call (rest := [(1, r139), (2, z125), (2, z125), (2, 5035)]) hR144 (fun hc hk9 => x_callV (as := []) (rest := [(1, r139), (2, z125), (2, z125), (2, 5035)]) dX34_join_144 hc (lw_V q4328 q3152 q3153 q476 q3154) hc144_2 rfl rfl (show _ ∧ _ ∧ _ ∧ _ = some 0 from by decide +kernel) (by decide) (by decide) rfl (Nat.le_of_ble_eq_true rfl) hk9 aw_nox) ?_
        refine hw_1 (fun k => x_aload dX34_join_147 rfl k) ?_
        replace h := ga_bind_some h; obtain ⟨r149, D149, g149, h⟩ := h
        have hS149 : h_P D149 ∧ h_E D144 D149 ∧ ∃ mc ms : Nat, hn D144 + mc = hn D149 ∧ hsl D144 + ms = hsl D149 ∧ ∀ {c sl : Nat}, aw_W G "WasteHouse$DepositCodes" cX34_join (some (.int)) 9 14 false M0 Q aw_no c sl 154 [(8, (2, r108)), (7, (2, r87)), (0, (2, 5028)), (3, (2, x3)), (4, (2, x4)), (5, (0, x5)), (6, (2, x6))] [(2, r149), (0, r144), (1, r139), (2, z125), (2, z125), (2, 5035)] (hM D149) → aw_W G "WasteHouse$DepositCodes" cX34_join (some (.int)) 9 14 false M0 Q aw_no (c + mc) (sl + ms) 149 [(8, (2, r108)), (7, (2, r87)), (0, (2, 5028)), (3, (2, x3)), (4, (2, x4)), (5, (0, x5)), (6, (2, x6))] [(2, r87), (0, r144), (1, r139), (2, z125), (2, z125), (2, 5035)] (hM D144) := by
          by_cases w149_74 : hk D144 r87 = (74, 0)
          · rw [if_pos w149_74] at g149
            have hR := (h_J31_getValue_ok (G := G) hP144 g149)
            exact hw_callM (rest := [(0, r144), (1, r139), (2, z125), (2, z125), (2, 5035)]) hR (fun hc hk9 => x_callF (C := "java/util/HashMap$Node") (as := []) (rest := [(0, r144), (1, r139), (2, z125), (2, z125), (2, 5035)]) dX34_join_149 hc q4525 q4513 (by decide +kernel) q4521 q4523 q486 q4524 q4522 q4493 w149_74 rfl rfl (show _ = some 0 from by decide +kernel) (by decide) (by decide) rfl (Nat.le_of_ble_eq_true rfl) hk9 aw_nox)
          rw [if_neg w149_74] at g149
          by_cases w149_75 : hk D144 r87 = (75, 0)
          · rw [if_pos w149_75] at g149
            have hR := (h_J31_getValue_ok (G := G) hP144 g149)
            exact hw_callM (rest := [(0, r144), (1, r139), (2, z125), (2, z125), (2, 5035)]) hR (fun hc hk9 => x_callF (C := "java/util/HashMap$TreeNode") (as := []) (rest := [(0, r144), (1, r139), (2, z125), (2, z125), (2, 5035)]) dX34_join_149 hc q4525 q4513 (by decide +kernel) q4526 q4523 q486 q4524 q4527 q4499 w149_75 rfl rfl (show _ = some 0 from by decide +kernel) (by decide) (by decide) rfl (Nat.le_of_ble_eq_true rfl) hk9 aw_nox)
          rw [if_neg w149_75] at g149
          by_cases w149_76 : hk D144 r87 = (76, 0)
          · rw [if_pos w149_76] at g149
            have hR := (h_J35_getValue_ok (G := G) hP144 g149)
            exact hw_callM (rest := [(0, r144), (1, r139), (2, z125), (2, z125), (2, 5035)]) hR (fun hc hk9 => x_callF (C := "java/util/TreeMap$Entry") (as := []) (rest := [(0, r144), (1, r139), (2, z125), (2, z125), (2, 5035)]) dX34_join_149 hc q4532 q4513 (by decide +kernel) q4528 q4530 q493 q4531 q4529 q4502 w149_76 rfl rfl (show _ = some 0 from by decide +kernel) (by decide) (by decide) rfl (Nat.le_of_ble_eq_true rfl) hk9 aw_nox)
          rw [if_neg w149_76] at g149
          by_cases w149_83 : hk D144 r87 = (83, 0)
          · rw [if_pos w149_83] at g149
            have hR := (h_J44_getValue_ok (G := G) hP144 g149)
            exact hw_callM (rest := [(0, r144), (1, r139), (2, z125), (2, z125), (2, 5035)]) hR (fun hc hk9 => x_callF (C := "java/util/AbstractMap$SimpleImmutableEntry") (as := []) (rest := [(0, r144), (1, r139), (2, z125), (2, z125), (2, 5035)]) dX34_join_149 hc q4520 q4513 (by decide +kernel) q4516 q4518 q503 q4519 q4517 q4487 w149_83 rfl rfl (show _ = some 0 from by decide +kernel) (by decide) (by decide) rfl (Nat.le_of_ble_eq_true rfl) hk9 aw_nox)
          rw [if_neg w149_83] at g149
          exact absurd g149 (by intro h; cases h)
        obtain ⟨hP149, hE149, hS149⟩ := hS149
        refine hw_go ⟨hE149, hS149⟩ ?_
        replace h := ga_ck_some h; obtain ⟨hc154_3, h⟩ := h
        refine hw_1 (fun k => x_castL (L := [70]) dX34_join_154 q4327 sbl_java_lang_Integer (aw_or1 hc154_3) k) ?_
        replace h := ga_ck_some h; obtain ⟨hc157_4, h⟩ := h
        replace h := ga_bind_some h; obtain ⟨r157, D157, g157, h⟩ := h
        have hR157 := (h_J25_intValue_ok (G := G) hP149 g157)
        obtain ⟨hP157, hE157, -⟩ := id hR157
        refine hw_call (rest := [(0, r144), (1, r139), (2, z125), (2, z125), (2, 5035)]) hR157 (fun hc hk9 => x_callV (as := []) (rest := [(0, r144), (1, r139), (2, z125), (2, z125), (2, 5035)]) dX34_join_157 hc (lw_V q4328 q3152 q3153 q476 q3154) hc157_4 rfl rfl (show _ ∧ _ ∧ _ ∧ _ = some 0 from by decide +kernel) (by decide) (by decide) rfl (Nat.le_of_ble_eq_true rfl) hk9 aw_nox) ?_
        replace h := ga_bind_some h; obtain ⟨r160, D160, g160, h⟩ := h
        have hR160 := (h_X62_init_ok (G := G) (hk_pos1 (h_kx hE157 (h_kx hE149 (h_kx hE144 (h_kx hE139 (h_kx hE131 hz125 (by decide)) (by decide)) (by decide)) (by decide)) (by decide)) (by decide)) hP157 g160)
        obtain ⟨hP160, hE160, -⟩ := id hR160
        refine hw_call (rest := [(2, z125), (2, 5035)]) hR160 (fun hc hk9 => x_callI (as := [(1, r139), (0, r144), (0, r157)]) (rest := [(2, z125), (2, 5035)]) dX34_join_160 hc (lw_meth q4535) q500 q4533 q4534 (h_kx hE157 (h_kx hE149 (h_kx hE144 (h_kx hE139 (h_kx hE131 hz125 (by decide)) (by decide)) (by decide)) (by decide)) (by decide)) rfl rfl (show _ ∧ _ ∧ _ = some 3 from by decide +kernel) (by decide) (by decide) rfl (Nat.le_of_ble_eq_true rfl) hk9 aw_nox) ?_
        replace h := ga_bind_some h; obtain ⟨r163, D163, g163, h⟩ := h
        have hR163 := (h_J2_add_ok (G := G) hP160 g163)
        obtain ⟨hP163, hE163, -⟩ := id hR163
        refine hw_call (rest := []) hR163 (fun hc hk9 => x_callV (as := [(2, z125)]) (rest := []) dX34_join_163 hc (lw_V q4148 q1941 q1942 q401 q1943) (hkS (D := D160) (show ga_K 5035 = (60, 0) from by decide +kernel) (by decide)) rfl rfl (show _ ∧ _ ∧ _ ∧ _ = some 1 from by decide +kernel) (by decide) (by decide) rfl (Nat.le_of_ble_eq_true rfl) hk9 aw_nox) ?_
        refine hw_1 (fun k => x_pop dX34_join_166 rfl k) ?_
        refine hw_1 (fun k => x_aload dX34_join_167 rfl k) ?_
        replace h := ga_bind_some h; obtain ⟨r169, D169, g169, h⟩ := h
        have hS169 : h_P D169 ∧ h_E D163 D169 ∧ ∃ mc ms : Nat, hn D163 + mc = hn D169 ∧ hsl D163 + ms = hsl D169 ∧ ∀ {c sl : Nat}, aw_W G "WasteHouse$DepositCodes" cX34_join (some (.int)) 9 14 false M0 Q aw_no c sl 174 [(8, (2, r108)), (7, (2, r87)), (0, (2, 5028)), (3, (2, x3)), (4, (2, x4)), (5, (0, x5)), (6, (2, x6))] [] (hM D169) → aw_W G "WasteHouse$DepositCodes" cX34_join (some (.int)) 9 14 false M0 Q aw_no (c + mc) (sl + ms) 169 [(8, (2, r108)), (7, (2, r87)), (0, (2, 5028)), (3, (2, x3)), (4, (2, x4)), (5, (0, x5)), (6, (2, x6))] [(2, x6)] (hM D163) := by
          by_cases w169_71 : hk D163 x6 = (71, 0)
          · rw [if_pos w169_71] at g169
            exact absurd g169 (by intro h; cases h)
          rw [if_neg w169_71] at g169
          by_cases w169_78 : hk D163 x6 = (78, 0)
          · rw [if_pos w169_78] at g169
            exact absurd g169 (by intro h; cases h)
          rw [if_neg w169_78] at g169
          by_cases w169_80 : hk D163 x6 = (80, 0)
          · rw [if_pos w169_80] at g169
            have hR := (h_J40_remove_ok (G := G) hP163 g169)
            exact hw_callM (rest := []) hR (fun hc hk9 => x_callF (C := "java/util/TreeMap$EntryIterator") (as := []) (rest := []) dX34_join_169 hc q4641 q4548 (by decide +kernel) q4637 q4639 q498 q4640 q4638 q2986 w169_80 rfl rfl (show _ = some 0 from by decide +kernel) (by decide) (by decide) rfl (Nat.le_of_ble_eq_true rfl) hk9 aw_nox)
          rw [if_neg w169_80] at g169
          by_cases w169_82 : hk D163 x6 = (82, 0)
          · rw [if_pos w169_82] at g169
            exact absurd g169 (by intro h; cases h)
          rw [if_neg w169_82] at g169
          exact absurd g169 (by intro h; cases h)
        obtain ⟨hP169, hE169, hS169⟩ := hS169
        refine hw_go ⟨hE169, hS169⟩ ?_
        replace h := ga_let_some h; obtain ⟨v174, ev174, h⟩ := h
        refine hw_1 (fun k => x_iinc (ls' := [(5, (0, v174)), (8, (2, r108)), (7, (2, r87)), (0, (2, 5028)), (3, (2, x3)), (4, (2, x4)), (6, (2, x6))]) dX34_join_174 rfl ev174.symm (by decide) rfl k) ?_
        refine hw_1 (fun k => x_goto (tgt := 75) dX34_join_177 (by decide) k) ?_
        refine hw_locs [3, 4, 5, 0, 6] (ls' := [(0, (2, 5028)), (3, (2, x3)), (4, (2, x4)), (5, (0, v174)), (6, (2, x6))]) rfl ?_
        exact ih _ _ _ _ _ hP169 h
theorem h_X34_join_l195_ok {G : aw_G} {M0 : aw_M} {D' : ga_D} {Q : Option aw_V → aw_M → Prop} {r : Int} (hq : Q (some (0, r)) (hM D')) {k248 : Int → Int → Int → ga_D → ga_S} (hk248 : ∀ (x3 x4 x5 : Int) (D : ga_D), h_P D → k248 x3 x4 x5 D = some (r, D') → aw_HW G "WasteHouse$DepositCodes" cX34_join (some (.int)) 9 14 false M0 Q aw_no D' (hn D') (hsl D') 248 [(0, (2, 5028)), (3, (2, x3)), (4, (2, x4)), (5, (0, x5))] [] D) : ∀ {n : Nat} {x3 x4 x5 x7 : Int} {D : ga_D}, h_P D → h_X34_join_l195 n x3 x4 x5 x7 D k248 = some (r, D') → aw_HW G "WasteHouse$DepositCodes" cX34_join (some (.int)) 9 14 false M0 Q aw_no D' (hn D') (hsl D') 195 [(0, (2, 5028)), (3, (2, x3)), (4, (2, x4)), (5, (0, x5)), (7, (2, x7))] [] D := by
  intro n
  induction n with
  | zero => intro x3 x4 x5 x7 D hP h; exact absurd (h : (none : ga_S) = some (r, D')) (by intro h; cases h)
  | succ n ih =>
    intro x3 x4 x5 x7 D hP h
    have ih : ∀ (x3 x4 x5 x7 : Int) (D : ga_D), h_P D → h_X34_join_l195 n x3 x4 x5 x7 D k248 = some (r, D') → aw_HW G "WasteHouse$DepositCodes" cX34_join (some (.int)) 9 14 false M0 Q aw_no D' (hn D') (hsl D') 195 [(0, (2, 5028)), (3, (2, x3)), (4, (2, x4)), (5, (0, x5)), (7, (2, x7))] [] D := fun x3 x4 x5 x7 D hP h => ih hP h
    replace h : (ga_bind (if hk D x7 = (71, 0) then (h_J26_hasNext x7 D) else if hk D x7 = (78, 0) then (h_J37_hasNext x7 D) else if hk D x7 = (80, 0) then (h_J40_hasNext x7 D) else if hk D x7 = (82, 0) then (h_J43_hasNext x7 D) else none) (fun r197 D197 => if r197 = 0 then (k248 x3 x4 x5 D197) else (ga_bind (if hk D197 x7 = (71, 0) then (h_J26_next x7 D197) else if hk D197 x7 = (78, 0) then (h_J38_next x7 D197) else if hk D197 x7 = (80, 0) then (h_J41_next x7 D197) else if hk D197 x7 = (82, 0) then (h_J43_next x7 D197) else none) (fun r207 D207 => ga_ck (r207 = 0 ∨ hk D207 r207 = (74, 0) ∨ hk D207 r207 = (75, 0) ∨ hk D207 r207 = (76, 0) ∨ hk D207 r207 = (83, 0)) (ga_ck (hk D207 x3 = (55, 0)) (ga_bind (if hk D207 r207 = (74, 0) then (h_J31_getKey r207 D207) else if hk D207 r207 = (75, 0) then (h_J31_getKey r207 D207) else if hk D207 r207 = (76, 0) then (h_J35_getKey r207 D207) else if hk D207 r207 = (83, 0) then (h_J44_getKey r207 D207) else none) (fun r223 D223 => ga_ck (r223 = 0 ∨ hk D223 r223 = (73, 0)) (ga_bind (if hk D223 r207 = (74, 0) then (h_J31_getValue r207 D223) else if hk D223 r207 = (75, 0) then (h_J31_getValue r207 D223) else if hk D223 r207 = (76, 0) then (h_J35_getValue r207 D223) else if hk D223 r207 = (83, 0) then (h_J44_getValue r207 D223) else none) (fun r233 D233 => ga_ck (r233 = 0 ∨ hk D233 r233 = (70, 0)) (ga_ck (hk D233 (D207 x3 0) = (61, 0)) (ga_bind (h_J4_put (D207 x3 0) r223 r233 D233) (fun r241 D241 => h_X34_join_l195 n x3 x4 x5 x7 D241 k248))))))))))) : ga_S) = some (r, D') := h
    refine hw_1 (fun k => x_aload dX34_join_195 rfl k) ?_
    replace h := ga_bind_some h; obtain ⟨r197, D197, g197, h⟩ := h
    have hS197 : h_P D197 ∧ h_E D D197 ∧ ∃ mc ms : Nat, hn D + mc = hn D197 ∧ hsl D + ms = hsl D197 ∧ ∀ {c sl : Nat}, aw_W G "WasteHouse$DepositCodes" cX34_join (some (.int)) 9 14 false M0 Q aw_no c sl 202 [(0, (2, 5028)), (3, (2, x3)), (4, (2, x4)), (5, (0, x5)), (7, (2, x7))] [(0, r197)] (hM D197) → aw_W G "WasteHouse$DepositCodes" cX34_join (some (.int)) 9 14 false M0 Q aw_no (c + mc) (sl + ms) 197 [(0, (2, 5028)), (3, (2, x3)), (4, (2, x4)), (5, (0, x5)), (7, (2, x7))] [(2, x7)] (hM D) := by
      by_cases w197_71 : hk D x7 = (71, 0)
      · rw [if_pos w197_71] at g197
        have hR := (h_J26_hasNext_ok (G := G) hP g197)
        exact hw_callM (rest := []) hR (fun hc hk9 => x_callF (C := "java/util/ArrayList$Itr") (as := []) (rest := []) dX34_join_197 hc q2979 q4479 (by decide +kernel) q2975 q2977 q477 q2978 q2976 q2974 w197_71 rfl rfl (show _ = some 0 from by decide +kernel) (by decide) (by decide) rfl (Nat.le_of_ble_eq_true rfl) hk9 aw_nox)
      rw [if_neg w197_71] at g197
      by_cases w197_78 : hk D x7 = (78, 0)
      · rw [if_pos w197_78] at g197
        have hR := (h_J37_hasNext_ok (G := G) hP g197)
        exact hw_callM (rest := []) hR (fun hc hk9 => x_callF (C := "java/util/HashMap$KeyIterator") (as := []) (rest := []) dX34_join_197 hc q2985 q4479 (by decide +kernel) q2981 q2983 q495 q2984 q2982 q2980 w197_78 rfl rfl (show _ = some 0 from by decide +kernel) (by decide) (by decide) rfl (Nat.le_of_ble_eq_true rfl) hk9 aw_nox)
      rw [if_neg w197_78] at g197
      by_cases w197_80 : hk D x7 = (80, 0)
      · rw [if_pos w197_80] at g197
        have hR := (h_J40_hasNext_ok (G := G) hP g197)
        exact hw_callM (rest := []) hR (fun hc hk9 => x_callF (C := "java/util/TreeMap$EntryIterator") (as := []) (rest := []) dX34_join_197 hc q2991 q4479 (by decide +kernel) q2987 q2989 q498 q2990 q2988 q2986 w197_80 rfl rfl (show _ = some 0 from by decide +kernel) (by decide) (by decide) rfl (Nat.le_of_ble_eq_true rfl) hk9 aw_nox)
      rw [if_neg w197_80] at g197
      by_cases w197_82 : hk D x7 = (82, 0)
      · rw [if_pos w197_82] at g197
        have hR := (h_J43_hasNext_ok (G := G) hP g197)
        exact hw_callM (rest := []) hR (fun hc hk9 => x_callF (C := "java/util/ArrayDeque$DeqIterator") (as := []) (rest := []) dX34_join_197 hc q2973 q4479 (by decide +kernel) q2969 q2971 q502 q2972 q2970 q2968 w197_82 rfl rfl (show _ = some 0 from by decide +kernel) (by decide) (by decide) rfl (Nat.le_of_ble_eq_true rfl) hk9 aw_nox)
      rw [if_neg w197_82] at g197
      exact absurd g197 (by intro h; cases h)
    obtain ⟨hP197, hE197, hS197⟩ := hS197
    refine hw_go ⟨hE197, hS197⟩ ?_
    by_cases c202 : r197 = 0
    · rw [if_pos c202] at h
      refine hw_1 (fun k => x_if_eq (tgt := 248) dX34_join_202 (by decide) (fun _ => k) (fun z => absurd c202 z)) ?_
      refine hw_locs [0, 1, 2, 3] (ls' := [(0, (2, 5028)), (3, (2, x3)), (4, (2, x4)), (5, (0, x5))]) rfl ?_
      exact hk248 _ _ _ _ hP197 h
    · rw [if_neg c202] at h
      refine hw_1 (fun k => x_if_eq (tgt := 248) dX34_join_202 (by decide) (fun z => absurd z c202) (fun _ => k)) ?_
      refine hw_1 (fun k => x_aload dX34_join_205 rfl k) ?_
      replace h := ga_bind_some h; obtain ⟨r207, D207, g207, h⟩ := h
      have hS207 : h_P D207 ∧ h_E D197 D207 ∧ ∃ mc ms : Nat, hn D197 + mc = hn D207 ∧ hsl D197 + ms = hsl D207 ∧ ∀ {c sl : Nat}, aw_W G "WasteHouse$DepositCodes" cX34_join (some (.int)) 9 14 false M0 Q aw_no c sl 212 [(0, (2, 5028)), (3, (2, x3)), (4, (2, x4)), (5, (0, x5)), (7, (2, x7))] [(2, r207)] (hM D207) → aw_W G "WasteHouse$DepositCodes" cX34_join (some (.int)) 9 14 false M0 Q aw_no (c + mc) (sl + ms) 207 [(0, (2, 5028)), (3, (2, x3)), (4, (2, x4)), (5, (0, x5)), (7, (2, x7))] [(2, x7)] (hM D197) := by
        by_cases w207_71 : hk D197 x7 = (71, 0)
        · rw [if_pos w207_71] at g207
          have hR := (h_J26_next_ok (G := G) hP197 g207)
          exact hw_callM (rest := []) hR (fun hc hk9 => x_callF (C := "java/util/ArrayList$Itr") (as := []) (rest := []) dX34_join_207 hc q3011 q4481 (by decide +kernel) q3007 q3009 q477 q3010 q3008 q2974 w207_71 rfl rfl (show _ = some 0 from by decide +kernel) (by decide) (by decide) rfl (Nat.le_of_ble_eq_true rfl) hk9 aw_nox)
        rw [if_neg w207_71] at g207
        by_cases w207_78 : hk D197 x7 = (78, 0)
        · rw [if_pos w207_78] at g207
          have hR := (h_J38_next_ok (G := G) hP197 g207)
          exact hw_callM (rest := []) hR (fun hc hk9 => x_callF (C := "java/util/HashMap$KeyIterator") (as := []) (rest := []) dX34_join_207 hc q3020 q4481 (by decide +kernel) q3016 q3018 q496 q3019 q3017 q2980 w207_78 rfl rfl (show _ = some 0 from by decide +kernel) (by decide) (by decide) rfl (Nat.le_of_ble_eq_true rfl) hk9 aw_nox)
        rw [if_neg w207_78] at g207
        by_cases w207_80 : hk D197 x7 = (80, 0)
        · rw [if_pos w207_80] at g207
          have hR := (h_J41_next_ok (G := G) hP197 g207)
          exact hw_callM (rest := []) hR (fun hc hk9 => x_callF (C := "java/util/TreeMap$EntryIterator") (as := []) (rest := []) dX34_join_207 hc q3031 q4481 (by decide +kernel) q3027 q3029 q499 q3030 q3028 q2986 w207_80 rfl rfl (show _ = some 0 from by decide +kernel) (by decide) (by decide) rfl (Nat.le_of_ble_eq_true rfl) hk9 aw_nox)
        rw [if_neg w207_80] at g207
        by_cases w207_82 : hk D197 x7 = (82, 0)
        · rw [if_pos w207_82] at g207
          have hR := (h_J43_next_ok (G := G) hP197 g207)
          exact hw_callM (rest := []) hR (fun hc hk9 => x_callF (C := "java/util/ArrayDeque$DeqIterator") (as := []) (rest := []) dX34_join_207 hc q3000 q4481 (by decide +kernel) q2996 q2998 q502 q2999 q2997 q2968 w207_82 rfl rfl (show _ = some 0 from by decide +kernel) (by decide) (by decide) rfl (Nat.le_of_ble_eq_true rfl) hk9 aw_nox)
        rw [if_neg w207_82] at g207
        exact absurd g207 (by intro h; cases h)
      obtain ⟨hP207, hE207, hS207⟩ := hS207
      refine hw_go ⟨hE207, hS207⟩ ?_
      replace h := ga_ck_some h; obtain ⟨hc212_0, h⟩ := h
      refine hw_1 (fun k => x_castL (L := [74, 75, 76, 83]) dX34_join_212 q4482 sbl_java_util_Map_Entry (aw_or4 hc212_0) k) ?_
      refine hw_1 (fun k => x_astore (ls' := [(8, (2, r207)), (0, (2, 5028)), (3, (2, x3)), (4, (2, x4)), (5, (0, x5)), (7, (2, x7))]) dX34_join_215 (by decide) rfl k) ?_
      refine hw_1 (fun k => x_aload_n dX34_join_217 rfl k) ?_
      replace h := ga_ck_some h; obtain ⟨hc218_1, h⟩ := h
      refine hw_1 (fun k => x_getf (v := D207 x3 0) dX34_join_218 fl_X34_129 hc218_1 rfl k) ?_
      refine hw_1 (fun k => x_aload dX34_join_221 rfl k) ?_
      replace h := ga_bind_some h; obtain ⟨r223, D223, g223, h⟩ := h
      have hS223 : h_P D223 ∧ h_E D207 D223 ∧ ∃ mc ms : Nat, hn D207 + mc = hn D223 ∧ hsl D207 + ms = hsl D223 ∧ ∀ {c sl : Nat}, aw_W G "WasteHouse$DepositCodes" cX34_join (some (.int)) 9 14 false M0 Q aw_no c sl 228 [(8, (2, r207)), (0, (2, 5028)), (3, (2, x3)), (4, (2, x4)), (5, (0, x5)), (7, (2, x7))] [(2, r223), (2, D207 x3 0)] (hM D223) → aw_W G "WasteHouse$DepositCodes" cX34_join (some (.int)) 9 14 false M0 Q aw_no (c + mc) (sl + ms) 223 [(8, (2, r207)), (0, (2, 5028)), (3, (2, x3)), (4, (2, x4)), (5, (0, x5)), (7, (2, x7))] [(2, r207), (2, D207 x3 0)] (hM D207) := by
        by_cases w223_74 : hk D207 r207 = (74, 0)
        · rw [if_pos w223_74] at g223
          have hR := (h_J31_getKey_ok (G := G) hP207 g223)
          exact hw_callM (rest := [(2, D207 x3 0)]) hR (fun hc hk9 => x_callF (C := "java/util/HashMap$Node") (as := []) (rest := [(2, D207 x3 0)]) dX34_join_223 hc q4498 q4484 (by decide +kernel) q4494 q4496 q486 q4497 q4495 q4493 w223_74 rfl rfl (show _ = some 0 from by decide +kernel) (by decide) (by decide) rfl (Nat.le_of_ble_eq_true rfl) hk9 aw_nox)
        rw [if_neg w223_74] at g223
        by_cases w223_75 : hk D207 r207 = (75, 0)
        · rw [if_pos w223_75] at g223
          have hR := (h_J31_getKey_ok (G := G) hP207 g223)
          exact hw_callM (rest := [(2, D207 x3 0)]) hR (fun hc hk9 => x_callF (C := "java/util/HashMap$TreeNode") (as := []) (rest := [(2, D207 x3 0)]) dX34_join_223 hc q4498 q4484 (by decide +kernel) q4500 q4496 q486 q4497 q4501 q4499 w223_75 rfl rfl (show _ = some 0 from by decide +kernel) (by decide) (by decide) rfl (Nat.le_of_ble_eq_true rfl) hk9 aw_nox)
        rw [if_neg w223_75] at g223
        by_cases w223_76 : hk D207 r207 = (76, 0)
        · rw [if_pos w223_76] at g223
          have hR := (h_J35_getKey_ok (G := G) hP207 g223)
          exact hw_callM (rest := [(2, D207 x3 0)]) hR (fun hc hk9 => x_callF (C := "java/util/TreeMap$Entry") (as := []) (rest := [(2, D207 x3 0)]) dX34_join_223 hc q4507 q4484 (by decide +kernel) q4503 q4505 q493 q4506 q4504 q4502 w223_76 rfl rfl (show _ = some 0 from by decide +kernel) (by decide) (by decide) rfl (Nat.le_of_ble_eq_true rfl) hk9 aw_nox)
        rw [if_neg w223_76] at g223
        by_cases w223_83 : hk D207 r207 = (83, 0)
        · rw [if_pos w223_83] at g223
          have hR := (h_J44_getKey_ok (G := G) hP207 g223)
          exact hw_callM (rest := [(2, D207 x3 0)]) hR (fun hc hk9 => x_callF (C := "java/util/AbstractMap$SimpleImmutableEntry") (as := []) (rest := [(2, D207 x3 0)]) dX34_join_223 hc q4492 q4484 (by decide +kernel) q4488 q4490 q503 q4491 q4489 q4487 w223_83 rfl rfl (show _ = some 0 from by decide +kernel) (by decide) (by decide) rfl (Nat.le_of_ble_eq_true rfl) hk9 aw_nox)
        rw [if_neg w223_83] at g223
        exact absurd g223 (by intro h; cases h)
      obtain ⟨hP223, hE223, hS223⟩ := hS223
      refine hw_go ⟨hE223, hS223⟩ ?_
      replace h := ga_ck_some h; obtain ⟨hc228_2, h⟩ := h
      refine hw_1 (fun k => x_castL (L := [73]) dX34_join_228 q4510 sbl_java_lang_Long (aw_or1 hc228_2) k) ?_
      refine hw_1 (fun k => x_aload dX34_join_231 rfl k) ?_
      replace h := ga_bind_some h; obtain ⟨r233, D233, g233, h⟩ := h
      have hS233 : h_P D233 ∧ h_E D223 D233 ∧ ∃ mc ms : Nat, hn D223 + mc = hn D233 ∧ hsl D223 + ms = hsl D233 ∧ ∀ {c sl : Nat}, aw_W G "WasteHouse$DepositCodes" cX34_join (some (.int)) 9 14 false M0 Q aw_no c sl 238 [(8, (2, r207)), (0, (2, 5028)), (3, (2, x3)), (4, (2, x4)), (5, (0, x5)), (7, (2, x7))] [(2, r233), (2, r223), (2, D207 x3 0)] (hM D233) → aw_W G "WasteHouse$DepositCodes" cX34_join (some (.int)) 9 14 false M0 Q aw_no (c + mc) (sl + ms) 233 [(8, (2, r207)), (0, (2, 5028)), (3, (2, x3)), (4, (2, x4)), (5, (0, x5)), (7, (2, x7))] [(2, r207), (2, r223), (2, D207 x3 0)] (hM D223) := by
        by_cases w233_74 : hk D223 r207 = (74, 0)
        · rw [if_pos w233_74] at g233
          have hR := (h_J31_getValue_ok (G := G) hP223 g233)
          exact hw_callM (rest := [(2, r223), (2, D207 x3 0)]) hR (fun hc hk9 => x_callF (C := "java/util/HashMap$Node") (as := []) (rest := [(2, r223), (2, D207 x3 0)]) dX34_join_233 hc q4525 q4513 (by decide +kernel) q4521 q4523 q486 q4524 q4522 q4493 w233_74 rfl rfl (show _ = some 0 from by decide +kernel) (by decide) (by decide) rfl (Nat.le_of_ble_eq_true rfl) hk9 aw_nox)
        rw [if_neg w233_74] at g233
        by_cases w233_75 : hk D223 r207 = (75, 0)
        · rw [if_pos w233_75] at g233
          have hR := (h_J31_getValue_ok (G := G) hP223 g233)
          exact hw_callM (rest := [(2, r223), (2, D207 x3 0)]) hR (fun hc hk9 => x_callF (C := "java/util/HashMap$TreeNode") (as := []) (rest := [(2, r223), (2, D207 x3 0)]) dX34_join_233 hc q4525 q4513 (by decide +kernel) q4526 q4523 q486 q4524 q4527 q4499 w233_75 rfl rfl (show _ = some 0 from by decide +kernel) (by decide) (by decide) rfl (Nat.le_of_ble_eq_true rfl) hk9 aw_nox)
        rw [if_neg w233_75] at g233
        by_cases w233_76 : hk D223 r207 = (76, 0)
        · rw [if_pos w233_76] at g233
          have hR := (h_J35_getValue_ok (G := G) hP223 g233)
          exact hw_callM (rest := [(2, r223), (2, D207 x3 0)]) hR (fun hc hk9 => x_callF (C := "java/util/TreeMap$Entry") (as := []) (rest := [(2, r223), (2, D207 x3 0)]) dX34_join_233 hc q4532 q4513 (by decide +kernel) q4528 q4530 q493 q4531 q4529 q4502 w233_76 rfl rfl (show _ = some 0 from by decide +kernel) (by decide) (by decide) rfl (Nat.le_of_ble_eq_true rfl) hk9 aw_nox)
        rw [if_neg w233_76] at g233
        by_cases w233_83 : hk D223 r207 = (83, 0)
        · rw [if_pos w233_83] at g233
          have hR := (h_J44_getValue_ok (G := G) hP223 g233)
          exact hw_callM (rest := [(2, r223), (2, D207 x3 0)]) hR (fun hc hk9 => x_callF (C := "java/util/AbstractMap$SimpleImmutableEntry") (as := []) (rest := [(2, r223), (2, D207 x3 0)]) dX34_join_233 hc q4520 q4513 (by decide +kernel) q4516 q4518 q503 q4519 q4517 q4487 w233_83 rfl rfl (show _ = some 0 from by decide +kernel) (by decide) (by decide) rfl (Nat.le_of_ble_eq_true rfl) hk9 aw_nox)
        rw [if_neg w233_83] at g233
        exact absurd g233 (by intro h; cases h)
      obtain ⟨hP233, hE233, hS233⟩ := hS233
      refine hw_go ⟨hE233, hS233⟩ ?_
      replace h := ga_ck_some h; obtain ⟨hc238_3, h⟩ := h
      refine hw_1 (fun k => x_castL (L := [70]) dX34_join_238 q4327 sbl_java_lang_Integer (aw_or1 hc238_3) k) ?_
      replace h := ga_ck_some h; obtain ⟨hc241_4, h⟩ := h
      replace h := ga_bind_some h; obtain ⟨r241, D241, g241, h⟩ := h
      have hR241 := (h_J4_put_ok (G := G) hP233 g241)
      obtain ⟨hP241, hE241, -⟩ := id hR241
      refine hw_call (rest := []) hR241 (fun hc hk9 => x_callV (as := [(2, r223), (2, r233)]) (rest := []) dX34_join_241 hc (lw_V q4236 q4237 q4238 q403 q4239) hc241_4 rfl rfl (show _ ∧ _ ∧ _ ∧ _ = some 2 from by decide +kernel) (by decide) (by decide) rfl (Nat.le_of_ble_eq_true rfl) hk9 aw_nox) ?_
      refine hw_1 (fun k => x_pop dX34_join_244 rfl k) ?_
      refine hw_1 (fun k => x_goto (tgt := 195) dX34_join_245 (by decide) k) ?_
      refine hw_locs [1, 2, 3, 4, 5] (ls' := [(0, (2, 5028)), (3, (2, x3)), (4, (2, x4)), (5, (0, x5)), (7, (2, x7))]) rfl ?_
      exact ih _ _ _ _ _ hP241 h
theorem h_X34_join_l271_ok {G : aw_G} {M0 : aw_M} {D' : ga_D} {Q : Option aw_V → aw_M → Prop} {r : Int} (hq : Q (some (0, r)) (hM D')) {k315 : Int → ga_D → ga_S} (hk315 : ∀ (x5 : Int) (D : ga_D), h_P D → k315 x5 D = some (r, D') → aw_HW G "WasteHouse$DepositCodes" cX34_join (some (.int)) 9 14 false M0 Q aw_no D' (hn D') (hsl D') 315 [(5, (0, x5))] [] D) : ∀ {n : Nat} {x3 x5 x7 : Int} {D : ga_D}, h_P D → h_X34_join_l271 n x3 x5 x7 D k315 = some (r, D') → aw_HW G "WasteHouse$DepositCodes" cX34_join (some (.int)) 9 14 false M0 Q aw_no D' (hn D') (hsl D') 271 [(0, (2, 5028)), (3, (2, x3)), (5, (0, x5)), (7, (2, x7))] [] D := by
  intro n
  induction n with
  | zero => intro x3 x5 x7 D hP h; exact absurd (h : (none : ga_S) = some (r, D')) (by intro h; cases h)
  | succ n ih =>
    intro x3 x5 x7 D hP h
    have ih : ∀ (x3 x5 x7 : Int) (D : ga_D), h_P D → h_X34_join_l271 n x3 x5 x7 D k315 = some (r, D') → aw_HW G "WasteHouse$DepositCodes" cX34_join (some (.int)) 9 14 false M0 Q aw_no D' (hn D') (hsl D') 271 [(0, (2, 5028)), (3, (2, x3)), (5, (0, x5)), (7, (2, x7))] [] D := fun x3 x5 x7 D hP h => ih hP h
    replace h : (ga_bind (if hk D x7 = (71, 0) then (h_J26_hasNext x7 D) else if hk D x7 = (78, 0) then (h_J37_hasNext x7 D) else if hk D x7 = (80, 0) then (h_J40_hasNext x7 D) else if hk D x7 = (82, 0) then (h_J43_hasNext x7 D) else none) (fun r273 D273 => if r273 = 0 then (k315 x5 D273) else (ga_bind (if hk D273 x7 = (71, 0) then (h_J26_next x7 D273) else if hk D273 x7 = (78, 0) then (h_J38_next x7 D273) else if hk D273 x7 = (80, 0) then (h_J41_next x7 D273) else if hk D273 x7 = (82, 0) then (h_J43_next x7 D273) else none) (fun r283 D283 => ga_ck (r283 = 0 ∨ hk D283 r283 = (70, 0)) (ga_ck (hk D283 r283 = (70, 0)) (ga_bind (h_J25_intValue r283 D283) (fun r291 D291 => ga_bind (h_J2_get 5033 r291 D291) (fun r302 D302 => ga_ck (r302 = 0 ∨ hk D302 r302 = (54, 0)) (ga_ck (hk D302 r302 = (54, 0)) (ga_let (ga_set D302 r302 1 x3) (fun D309 => h_X34_join_l271 n x3 x5 x7 D309 k315)))))))))) : ga_S) = some (r, D') := h
    refine hw_1 (fun k => x_aload dX34_join_271 rfl k) ?_
    replace h := ga_bind_some h; obtain ⟨r273, D273, g273, h⟩ := h
    have hS273 : h_P D273 ∧ h_E D D273 ∧ ∃ mc ms : Nat, hn D + mc = hn D273 ∧ hsl D + ms = hsl D273 ∧ ∀ {c sl : Nat}, aw_W G "WasteHouse$DepositCodes" cX34_join (some (.int)) 9 14 false M0 Q aw_no c sl 278 [(0, (2, 5028)), (3, (2, x3)), (5, (0, x5)), (7, (2, x7))] [(0, r273)] (hM D273) → aw_W G "WasteHouse$DepositCodes" cX34_join (some (.int)) 9 14 false M0 Q aw_no (c + mc) (sl + ms) 273 [(0, (2, 5028)), (3, (2, x3)), (5, (0, x5)), (7, (2, x7))] [(2, x7)] (hM D) := by
      by_cases w273_71 : hk D x7 = (71, 0)
      · rw [if_pos w273_71] at g273
        have hR := (h_J26_hasNext_ok (G := G) hP g273)
        exact hw_callM (rest := []) hR (fun hc hk9 => x_callF (C := "java/util/ArrayList$Itr") (as := []) (rest := []) dX34_join_273 hc q2979 q4479 (by decide +kernel) q2975 q2977 q477 q2978 q2976 q2974 w273_71 rfl rfl (show _ = some 0 from by decide +kernel) (by decide) (by decide) rfl (Nat.le_of_ble_eq_true rfl) hk9 aw_nox)
      rw [if_neg w273_71] at g273
      by_cases w273_78 : hk D x7 = (78, 0)
      · rw [if_pos w273_78] at g273
        have hR := (h_J37_hasNext_ok (G := G) hP g273)
        exact hw_callM (rest := []) hR (fun hc hk9 => x_callF (C := "java/util/HashMap$KeyIterator") (as := []) (rest := []) dX34_join_273 hc q2985 q4479 (by decide +kernel) q2981 q2983 q495 q2984 q2982 q2980 w273_78 rfl rfl (show _ = some 0 from by decide +kernel) (by decide) (by decide) rfl (Nat.le_of_ble_eq_true rfl) hk9 aw_nox)
      rw [if_neg w273_78] at g273
      by_cases w273_80 : hk D x7 = (80, 0)
      · rw [if_pos w273_80] at g273
        have hR := (h_J40_hasNext_ok (G := G) hP g273)
        exact hw_callM (rest := []) hR (fun hc hk9 => x_callF (C := "java/util/TreeMap$EntryIterator") (as := []) (rest := []) dX34_join_273 hc q2991 q4479 (by decide +kernel) q2987 q2989 q498 q2990 q2988 q2986 w273_80 rfl rfl (show _ = some 0 from by decide +kernel) (by decide) (by decide) rfl (Nat.le_of_ble_eq_true rfl) hk9 aw_nox)
      rw [if_neg w273_80] at g273
      by_cases w273_82 : hk D x7 = (82, 0)
      · rw [if_pos w273_82] at g273
        have hR := (h_J43_hasNext_ok (G := G) hP g273)
        exact hw_callM (rest := []) hR (fun hc hk9 => x_callF (C := "java/util/ArrayDeque$DeqIterator") (as := []) (rest := []) dX34_join_273 hc q2973 q4479 (by decide +kernel) q2969 q2971 q502 q2972 q2970 q2968 w273_82 rfl rfl (show _ = some 0 from by decide +kernel) (by decide) (by decide) rfl (Nat.le_of_ble_eq_true rfl) hk9 aw_nox)
      rw [if_neg w273_82] at g273
      exact absurd g273 (by intro h; cases h)
    obtain ⟨hP273, hE273, hS273⟩ := hS273
    refine hw_go ⟨hE273, hS273⟩ ?_
    by_cases c278 : r273 = 0
    · rw [if_pos c278] at h
      refine hw_1 (fun k => x_if_eq (tgt := 315) dX34_join_278 (by decide) (fun _ => k) (fun z => absurd c278 z)) ?_
      refine hw_locs [2] (ls' := [(5, (0, x5))]) rfl ?_
      exact hk315 _ _ hP273 h
    · rw [if_neg c278] at h
      refine hw_1 (fun k => x_if_eq (tgt := 315) dX34_join_278 (by decide) (fun z => absurd z c278) (fun _ => k)) ?_
      refine hw_1 (fun k => x_aload dX34_join_281 rfl k) ?_
      replace h := ga_bind_some h; obtain ⟨r283, D283, g283, h⟩ := h
      have hS283 : h_P D283 ∧ h_E D273 D283 ∧ ∃ mc ms : Nat, hn D273 + mc = hn D283 ∧ hsl D273 + ms = hsl D283 ∧ ∀ {c sl : Nat}, aw_W G "WasteHouse$DepositCodes" cX34_join (some (.int)) 9 14 false M0 Q aw_no c sl 288 [(0, (2, 5028)), (3, (2, x3)), (5, (0, x5)), (7, (2, x7))] [(2, r283)] (hM D283) → aw_W G "WasteHouse$DepositCodes" cX34_join (some (.int)) 9 14 false M0 Q aw_no (c + mc) (sl + ms) 283 [(0, (2, 5028)), (3, (2, x3)), (5, (0, x5)), (7, (2, x7))] [(2, x7)] (hM D273) := by
        by_cases w283_71 : hk D273 x7 = (71, 0)
        · rw [if_pos w283_71] at g283
          have hR := (h_J26_next_ok (G := G) hP273 g283)
          exact hw_callM (rest := []) hR (fun hc hk9 => x_callF (C := "java/util/ArrayList$Itr") (as := []) (rest := []) dX34_join_283 hc q3011 q4481 (by decide +kernel) q3007 q3009 q477 q3010 q3008 q2974 w283_71 rfl rfl (show _ = some 0 from by decide +kernel) (by decide) (by decide) rfl (Nat.le_of_ble_eq_true rfl) hk9 aw_nox)
        rw [if_neg w283_71] at g283
        by_cases w283_78 : hk D273 x7 = (78, 0)
        · rw [if_pos w283_78] at g283
          have hR := (h_J38_next_ok (G := G) hP273 g283)
          exact hw_callM (rest := []) hR (fun hc hk9 => x_callF (C := "java/util/HashMap$KeyIterator") (as := []) (rest := []) dX34_join_283 hc q3020 q4481 (by decide +kernel) q3016 q3018 q496 q3019 q3017 q2980 w283_78 rfl rfl (show _ = some 0 from by decide +kernel) (by decide) (by decide) rfl (Nat.le_of_ble_eq_true rfl) hk9 aw_nox)
        rw [if_neg w283_78] at g283
        by_cases w283_80 : hk D273 x7 = (80, 0)
        · rw [if_pos w283_80] at g283
          have hR := (h_J41_next_ok (G := G) hP273 g283)
          exact hw_callM (rest := []) hR (fun hc hk9 => x_callF (C := "java/util/TreeMap$EntryIterator") (as := []) (rest := []) dX34_join_283 hc q3031 q4481 (by decide +kernel) q3027 q3029 q499 q3030 q3028 q2986 w283_80 rfl rfl (show _ = some 0 from by decide +kernel) (by decide) (by decide) rfl (Nat.le_of_ble_eq_true rfl) hk9 aw_nox)
        rw [if_neg w283_80] at g283
        by_cases w283_82 : hk D273 x7 = (82, 0)
        · rw [if_pos w283_82] at g283
          have hR := (h_J43_next_ok (G := G) hP273 g283)
          exact hw_callM (rest := []) hR (fun hc hk9 => x_callF (C := "java/util/ArrayDeque$DeqIterator") (as := []) (rest := []) dX34_join_283 hc q3000 q4481 (by decide +kernel) q2996 q2998 q502 q2999 q2997 q2968 w283_82 rfl rfl (show _ = some 0 from by decide +kernel) (by decide) (by decide) rfl (Nat.le_of_ble_eq_true rfl) hk9 aw_nox)
        rw [if_neg w283_82] at g283
        exact absurd g283 (by intro h; cases h)
      obtain ⟨hP283, hE283, hS283⟩ := hS283
      refine hw_go ⟨hE283, hS283⟩ ?_
      replace h := ga_ck_some h; obtain ⟨hc288_0, h⟩ := h
      refine hw_1 (fun k => x_castL (L := [70]) dX34_join_288 q4327 sbl_java_lang_Integer (aw_or1 hc288_0) k) ?_
      replace h := ga_ck_some h; obtain ⟨hc291_1, h⟩ := h
      replace h := ga_bind_some h; obtain ⟨r291, D291, g291, h⟩ := h
      have hR291 := (h_J25_intValue_ok (G := G) hP283 g291)
      obtain ⟨hP291, hE291, -⟩ := id hR291
      refine hw_call (rest := []) hR291 (fun hc hk9 => x_callV (as := []) (rest := []) dX34_join_291 hc (lw_V q4328 q3152 q3153 q476 q3154) hc291_1 rfl rfl (show _ ∧ _ ∧ _ ∧ _ = some 0 from by decide +kernel) (by decide) (by decide) rfl (Nat.le_of_ble_eq_true rfl) hk9 aw_nox) ?_
      refine hw_1 (fun k => x_istore (ls' := [(8, (0, r291)), (0, (2, 5028)), (3, (2, x3)), (5, (0, x5)), (7, (2, x7))]) dX34_join_294 (by decide) rfl k) ?_
      refine hw_1 (fun k => x_aload_n dX34_join_296 rfl k) ?_
      refine hw_1 (fun k => x_getf (v := 5033) dX34_join_297 fl_X34_19 (hkS (D := D291) (show ga_K 5028 = (31, 0) from by decide +kernel) (by decide)) (hP291.1 5028 1 5033 (by decide +kernel)) k) ?_
      refine hw_1 (fun k => x_iload dX34_join_300 rfl k) ?_
      replace h := ga_bind_some h; obtain ⟨r302, D302, g302, h⟩ := h
      have hR302 := (h_J2_get_ok (G := G) hP291 g302)
      obtain ⟨hP302, hE302, -⟩ := id hR302
      refine hw_call (rest := []) hR302 (fun hc hk9 => x_callV (as := [(0, r291)]) (rest := []) dX34_join_302 hc (lw_V q4174 q3183 q3184 q401 q3185) (hkS (D := D291) (show ga_K 5033 = (60, 0) from by decide +kernel) (by decide)) rfl rfl (show _ ∧ _ ∧ _ ∧ _ = some 1 from by decide +kernel) (by decide) (by decide) rfl (Nat.le_of_ble_eq_true rfl) hk9 aw_nox) ?_
      replace h := ga_ck_some h; obtain ⟨hc305_2, h⟩ := h
      refine hw_1 (fun k => x_castL (L := [54]) dX34_join_305 q3533 sbl_WasteHouse_DepositCodes_Machine (aw_or1 hc305_2) k) ?_
      refine hw_1 (fun k => x_aload_n dX34_join_308 rfl k) ?_
      replace h := ga_ck_some h; obtain ⟨hc309_3, h⟩ := h
      replace h := ga_let_some h; obtain ⟨D309, eD309, h⟩ := h
      refine hw_set eD309 (Int.le_trans (by decide) (hkge_54 hc309_3)) (by decide) (fun k => x_putf dX34_join_309 fl_X34_126 rfl hc309_3 (hkge_54 hc309_3) trivial k) ?_
      have hP309 : h_P D309 := hP302.set eD309 (hkge_54 hc309_3) (by decide) (hPn hc309_3 rfl)
      have hE309 : h_E D302 D309 := h_E_set eD309 (by decide)
      refine hw_1 (fun k => x_goto (tgt := 271) dX34_join_312 (by decide) k) ?_
      refine hw_locs [1, 2, 3, 4] (ls' := [(0, (2, 5028)), (3, (2, x3)), (5, (0, x5)), (7, (2, x7))]) rfl ?_
      exact ih _ _ _ _ hP309 h
theorem h_X34_join_ok {G : aw_G} {D D' : ga_D} {r : Int} {x1 x2 : Int} (hP : h_P D) (h : h_X34_join x1 x2 D = some (r, D')) : aw_HR yX34_join cX34_join 9 (some (.int)) 14 G [(2, 5028), (0, x1), (0, x2)] D (some (0, r)) D' := by
  unfold h_X34_join at h
  refine hw_body (own := "WasteHouse$DepositCodes") (ini := false) (ls := [(0, (2, 5028)), (1, (0, x1)), (2, (0, x2))]) rfl rfl (fun h => by cases h) (Nat.le_of_ble_eq_true rfl) rfl fun Q hq => ?_
  refine hw_1 (fun k => x_aload_n dX34_join_0 rfl k) ?_
  refine hw_1 (fun k => x_iload_n dX34_join_1 rfl k) ?_
  replace h := ga_bind_some h; obtain ⟨r2, D2, g2, h⟩ := h
  have hR2 := (h_X34_isMachine_ok (G := G) hP g2)
  obtain ⟨hP2, hE2, -⟩ := id hR2
  refine hw_call (rest := []) hR2 (fun hc hk9 => x_callV (as := [(0, x1)]) (rest := []) dX34_join_2 hc (lw_V q4170 q4172 qs32 q433 q4173) (hkS (D := D) (show ga_K 5028 = (31, 0) from by decide +kernel) (by decide)) rfl rfl (show _ ∧ _ ∧ _ ∧ _ = some 1 from by decide +kernel) (by decide) (by decide) rfl (Nat.le_of_ble_eq_true rfl) hk9 aw_nox) ?_
  by_cases c5 : r2 = 0
  · rw [if_pos c5] at h
    refine hw_1 (fun k => x_if_eq (tgt := 16) dX34_join_5 (by decide) (fun _ => k) (fun z => absurd c5 z)) ?_
    refine hw_1 (fun k => x_iconst dX34_join_16 (by decide) k) ?_
    obtain ⟨rfl, rfl⟩ := ga_end h
    exact hw_ret hP2 (x_iret dX34_join_17 rfl rfl trivial hq)
  · rw [if_neg c5] at h
    refine hw_1 (fun k => x_if_eq (tgt := 16) dX34_join_5 (by decide) (fun z => absurd z c5) (fun _ => k)) ?_
    refine hw_1 (fun k => x_aload_n dX34_join_8 rfl k) ?_
    refine hw_1 (fun k => x_iload_n dX34_join_9 rfl k) ?_
    replace h := ga_bind_some h; obtain ⟨r10, D10, g10, h⟩ := h
    have hR10 := (h_X34_isMachine_ok (G := G) hP2 g10)
    obtain ⟨hP10, hE10, -⟩ := id hR10
    refine hw_call (rest := []) hR10 (fun hc hk9 => x_callV (as := [(0, x2)]) (rest := []) dX34_join_10 hc (lw_V q4170 q4172 qs32 q433 q4173) (hkS (D := D2) (show ga_K 5028 = (31, 0) from by decide +kernel) (by decide)) rfl rfl (show _ ∧ _ ∧ _ ∧ _ = some 1 from by decide +kernel) (by decide) (by decide) rfl (Nat.le_of_ble_eq_true rfl) hk9 aw_nox) ?_
    by_cases c13 : r10 ≠ 0
    · rw [if_pos c13] at h
      refine hw_1 (fun k => x_if_ne (tgt := 18) dX34_join_13 (by decide) (fun _ => k) (fun z => absurd c13 z)) ?_
      refine hw_1 (fun k => x_aload_n dX34_join_18 rfl k) ?_
      refine hw_1 (fun k => x_getf (v := 5033) dX34_join_19 fl_X34_19 (hkS (D := D10) (show ga_K 5028 = (31, 0) from by decide +kernel) (by decide)) (hP10.1 5028 1 5033 (by decide +kernel)) k) ?_
      refine hw_1 (fun k => x_iload_n dX34_join_22 rfl k) ?_
      replace h := ga_bind_some h; obtain ⟨r23, D23, g23, h⟩ := h
      have hR23 := (h_J2_get_ok (G := G) hP10 g23)
      obtain ⟨hP23, hE23, -⟩ := id hR23
      refine hw_call (rest := []) hR23 (fun hc hk9 => x_callV (as := [(0, x1)]) (rest := []) dX34_join_23 hc (lw_V q4174 q3183 q3184 q401 q3185) (hkS (D := D10) (show ga_K 5033 = (60, 0) from by decide +kernel) (by decide)) rfl rfl (show _ ∧ _ ∧ _ ∧ _ = some 1 from by decide +kernel) (by decide) (by decide) rfl (Nat.le_of_ble_eq_true rfl) hk9 aw_nox) ?_
      replace h := ga_ck_some h; obtain ⟨hc26_0, h⟩ := h
      refine hw_1 (fun k => x_castL (L := [54]) dX34_join_26 q3533 sbl_WasteHouse_DepositCodes_Machine (aw_or1 hc26_0) k) ?_
      replace h := ga_ck_some h; obtain ⟨hc29_1, h⟩ := h
      refine hw_1 (fun k => x_getf (v := D23 r23 1) dX34_join_29 fl_X34_126 hc29_1 rfl k) ?_
      replace h := ga_let_some h; obtain ⟨v32, ev32, h⟩ := h
      refine hw_nm ev32 ?_
      refine hw_1 (fun k => x_astore_n (ls' := [(3, (2, v32)), (0, (2, 5028)), (1, (0, x1)), (2, (0, x2))]) dX34_join_32 (by decide) rfl k) ?_
      refine hw_1 (fun k => x_aload_n dX34_join_33 rfl k) ?_
      refine hw_1 (fun k => x_getf (v := 5033) dX34_join_34 fl_X34_19 (hkS (D := D23) (show ga_K 5028 = (31, 0) from by decide +kernel) (by decide)) (hP23.1 5028 1 5033 (by decide +kernel)) k) ?_
      refine hw_1 (fun k => x_iload_n dX34_join_37 rfl k) ?_
      replace h := ga_bind_some h; obtain ⟨r38, D38, g38, h⟩ := h
      have hR38 := (h_J2_get_ok (G := G) hP23 g38)
      obtain ⟨hP38, hE38, -⟩ := id hR38
      refine hw_call (rest := []) hR38 (fun hc hk9 => x_callV (as := [(0, x2)]) (rest := []) dX34_join_38 hc (lw_V q4174 q3183 q3184 q401 q3185) (hkS (D := D23) (show ga_K 5033 = (60, 0) from by decide +kernel) (by decide)) rfl rfl (show _ ∧ _ ∧ _ ∧ _ = some 1 from by decide +kernel) (by decide) (by decide) rfl (Nat.le_of_ble_eq_true rfl) hk9 aw_nox) ?_
      replace h := ga_ck_some h; obtain ⟨hc41_2, h⟩ := h
      refine hw_1 (fun k => x_castL (L := [54]) dX34_join_41 q3533 sbl_WasteHouse_DepositCodes_Machine (aw_or1 hc41_2) k) ?_
      replace h := ga_ck_some h; obtain ⟨hc44_3, h⟩ := h
      refine hw_1 (fun k => x_getf (v := D38 r38 1) dX34_join_44 fl_X34_126 hc44_3 rfl k) ?_
      replace h := ga_let_some h; obtain ⟨v47, ev47, h⟩ := h
      refine hw_nm ev47 ?_
      refine hw_1 (fun k => x_astore (ls' := [(4, (2, v47)), (3, (2, v32)), (0, (2, 5028)), (1, (0, x1)), (2, (0, x2))]) dX34_join_47 (by decide) rfl k) ?_
      refine hw_1 (fun k => x_aload_n dX34_join_49 rfl k) ?_
      refine hw_1 (fun k => x_aload dX34_join_50 rfl k) ?_
      replace h := ga_ck_some h; obtain ⟨hc52_4, h⟩ := h
      by_cases c52 : v32 ≠ v47
      · rw [if_pos c52] at h
        refine hw_1 (fun k => x_acmp_ne (tgt := 57) dX34_join_52 (by decide) hc52_4 (fun _ => k) (fun z => absurd c52 z)) ?_
        refine hw_1 (fun k => x_iconst dX34_join_57 (by decide) k) ?_
        refine hw_1 (fun k => x_istore (ls' := [(5, (0, 0)), (4, (2, v47)), (3, (2, v32)), (0, (2, 5028)), (1, (0, x1)), (2, (0, x2))]) dX34_join_58 (by decide) rfl k) ?_
        refine hw_1 (fun k => x_aload dX34_join_60 rfl k) ?_
        replace h := ga_ck_some h; obtain ⟨hc62_0, h⟩ := h
        refine hw_1 (fun k => x_getf (v := D38 v47 0) dX34_join_62 fl_X34_129 hc62_0 rfl k) ?_
        replace h := ga_ck_some h; obtain ⟨hc65_1, h⟩ := h
        replace h := ga_bind_some h; obtain ⟨r65, D65, g65, h⟩ := h
        have hR65 := (h_J4_entrySet_ok (G := G) hP38 g65)
        obtain ⟨hP65, hE65, -⟩ := id hR65
        refine hw_call (rest := []) hR65 (fun hc hk9 => x_callV (as := []) (rest := []) dX34_join_65 hc (lw_V q4375 q4376 q4377 q403 q4378) hc65_1 rfl rfl (show _ ∧ _ ∧ _ ∧ _ = some 0 from by decide +kernel) (by decide) (by decide) rfl (Nat.le_of_ble_eq_true rfl) hk9 aw_nox) ?_
        replace h := ga_bind_some h; obtain ⟨r68, D68, g68, h⟩ := h
        have hS68 : h_P D68 ∧ h_E D65 D68 ∧ ∃ mc ms : Nat, hn D65 + mc = hn D68 ∧ hsl D65 + ms = hsl D68 ∧ ∀ {c sl : Nat}, aw_W G "WasteHouse$DepositCodes" cX34_join (some (.int)) 9 14 false (hM D) Q aw_no c sl 73 [(5, (0, 0)), (4, (2, v47)), (3, (2, v32)), (0, (2, 5028)), (1, (0, x1)), (2, (0, x2))] [(2, r68)] (hM D68) → aw_W G "WasteHouse$DepositCodes" cX34_join (some (.int)) 9 14 false (hM D) Q aw_no (c + mc) (sl + ms) 68 [(5, (0, 0)), (4, (2, v47)), (3, (2, v32)), (0, (2, 5028)), (1, (0, x1)), (2, (0, x2))] [(2, r65)] (hM D65) := by
          by_cases w68_63 : hk D65 r65 = (63, 0)
          · rw [if_pos w68_63] at g68
            have hR := (h_J9_iterator_ok (G := G) hP65 g68)
            exact hw_callM (rest := []) hR (fun hc hk9 => x_callF (C := "java/util/HashSet") (as := []) (rest := []) dX34_join_68 hc q4429 q4390 (by decide +kernel) q4425 q4427 q437 q4428 q4426 q4424 w68_63 rfl rfl (show _ = some 0 from by decide +kernel) (by decide) (by decide) rfl (Nat.le_of_ble_eq_true rfl) hk9 aw_nox)
          rw [if_neg w68_63] at g68
          by_cases w68_77 : hk D65 r65 = (77, 0)
          · rw [if_pos w68_77] at g68
            have hR := (h_J36_iterator_ok (G := G) hP65 g68)
            exact hw_callM (rest := []) hR (fun hc hk9 => x_callF (C := "java/util/TreeMap$EntrySet") (as := []) (rest := []) dX34_join_68 hc q4451 q4390 (by decide +kernel) q4447 q4449 q494 q4450 q4448 q4446 w68_77 rfl rfl (show _ = some 0 from by decide +kernel) (by decide) (by decide) rfl (Nat.le_of_ble_eq_true rfl) hk9 aw_nox)
          rw [if_neg w68_77] at g68
          by_cases w68_79 : hk D65 r65 = (79, 0)
          · rw [if_pos w68_79] at g68
            have hR := (h_J39_iterator_ok (G := G) hP65 g68)
            exact hw_callM (rest := []) hR (fun hc hk9 => x_callF (C := "java/util/HashMap$KeySet") (as := []) (rest := []) dX34_join_68 hc q4398 q4390 (by decide +kernel) q4394 q4396 q497 q4397 q4395 q4393 w68_79 rfl rfl (show _ = some 0 from by decide +kernel) (by decide) (by decide) rfl (Nat.le_of_ble_eq_true rfl) hk9 aw_nox)
          rw [if_neg w68_79] at g68
          exact absurd g68 (by intro h; cases h)
        obtain ⟨hP68, hE68, hS68⟩ := hS68
        refine hw_go ⟨hE68, hS68⟩ ?_
        refine hw_1 (fun k => x_astore (ls' := [(6, (2, r68)), (5, (0, 0)), (4, (2, v47)), (3, (2, v32)), (0, (2, 5028)), (1, (0, x1)), (2, (0, x2))]) dX34_join_73 (by decide) rfl k) ?_
        refine hw_locs [4, 3, 2, 1, 0] (ls' := [(0, (2, 5028)), (3, (2, v32)), (4, (2, v47)), (5, (0, 0)), (6, (2, r68))]) rfl ?_
        refine h_X34_join_l75_ok hq (fun x3 x4 x5 D180 hP h => ?_) hP68 h
        · refine hw_1 (fun k => x_aload dX34_join_180 rfl k) ?_
          replace h := ga_ck_some h; obtain ⟨hc182_0, h⟩ := h
          refine hw_1 (fun k => x_getf (v := D180 x4 0) dX34_join_182 fl_X34_129 hc182_0 rfl k) ?_
          replace h := ga_ck_some h; obtain ⟨hc185_1, h⟩ := h
          replace h := ga_bind_some h; obtain ⟨r185, D185, g185, h⟩ := h
          have hR185 := (h_J4_entrySet_ok (G := G) hP g185)
          obtain ⟨hP185, hE185, -⟩ := id hR185
          refine hw_call (rest := []) hR185 (fun hc hk9 => x_callV (as := []) (rest := []) dX34_join_185 hc (lw_V q4375 q4376 q4377 q403 q4378) hc185_1 rfl rfl (show _ ∧ _ ∧ _ ∧ _ = some 0 from by decide +kernel) (by decide) (by decide) rfl (Nat.le_of_ble_eq_true rfl) hk9 aw_nox) ?_
          replace h := ga_bind_some h; obtain ⟨r188, D188, g188, h⟩ := h
          have hS188 : h_P D188 ∧ h_E D185 D188 ∧ ∃ mc ms : Nat, hn D185 + mc = hn D188 ∧ hsl D185 + ms = hsl D188 ∧ ∀ {c sl : Nat}, aw_W G "WasteHouse$DepositCodes" cX34_join (some (.int)) 9 14 false (hM D) Q aw_no c sl 193 [(0, (2, 5028)), (3, (2, x3)), (4, (2, x4)), (5, (0, x5))] [(2, r188)] (hM D188) → aw_W G "WasteHouse$DepositCodes" cX34_join (some (.int)) 9 14 false (hM D) Q aw_no (c + mc) (sl + ms) 188 [(0, (2, 5028)), (3, (2, x3)), (4, (2, x4)), (5, (0, x5))] [(2, r185)] (hM D185) := by
            by_cases w188_63 : hk D185 r185 = (63, 0)
            · rw [if_pos w188_63] at g188
              have hR := (h_J9_iterator_ok (G := G) hP185 g188)
              exact hw_callM (rest := []) hR (fun hc hk9 => x_callF (C := "java/util/HashSet") (as := []) (rest := []) dX34_join_188 hc q4429 q4390 (by decide +kernel) q4425 q4427 q437 q4428 q4426 q4424 w188_63 rfl rfl (show _ = some 0 from by decide +kernel) (by decide) (by decide) rfl (Nat.le_of_ble_eq_true rfl) hk9 aw_nox)
            rw [if_neg w188_63] at g188
            by_cases w188_77 : hk D185 r185 = (77, 0)
            · rw [if_pos w188_77] at g188
              have hR := (h_J36_iterator_ok (G := G) hP185 g188)
              exact hw_callM (rest := []) hR (fun hc hk9 => x_callF (C := "java/util/TreeMap$EntrySet") (as := []) (rest := []) dX34_join_188 hc q4451 q4390 (by decide +kernel) q4447 q4449 q494 q4450 q4448 q4446 w188_77 rfl rfl (show _ = some 0 from by decide +kernel) (by decide) (by decide) rfl (Nat.le_of_ble_eq_true rfl) hk9 aw_nox)
            rw [if_neg w188_77] at g188
            by_cases w188_79 : hk D185 r185 = (79, 0)
            · rw [if_pos w188_79] at g188
              have hR := (h_J39_iterator_ok (G := G) hP185 g188)
              exact hw_callM (rest := []) hR (fun hc hk9 => x_callF (C := "java/util/HashMap$KeySet") (as := []) (rest := []) dX34_join_188 hc q4398 q4390 (by decide +kernel) q4394 q4396 q497 q4397 q4395 q4393 w188_79 rfl rfl (show _ = some 0 from by decide +kernel) (by decide) (by decide) rfl (Nat.le_of_ble_eq_true rfl) hk9 aw_nox)
            rw [if_neg w188_79] at g188
            exact absurd g188 (by intro h; cases h)
          obtain ⟨hP188, hE188, hS188⟩ := hS188
          refine hw_go ⟨hE188, hS188⟩ ?_
          refine hw_1 (fun k => x_astore (ls' := [(7, (2, r188)), (0, (2, 5028)), (3, (2, x3)), (4, (2, x4)), (5, (0, x5))]) dX34_join_193 (by decide) rfl k) ?_
          refine hw_locs [1, 2, 3, 4, 0] (ls' := [(0, (2, 5028)), (3, (2, x3)), (4, (2, x4)), (5, (0, x5)), (7, (2, r188))]) rfl ?_
          refine h_X34_join_l195_ok hq (fun x3 x4 x5 D248 hP h => ?_) hP188 h
          · refine hw_1 (fun k => x_aload_n dX34_join_248 rfl k) ?_
            replace h := ga_ck_some h; obtain ⟨hc249_0, h⟩ := h
            refine hw_1 (fun k => x_getf (v := D248 x3 1) dX34_join_249 fl_X34_242 hc249_0 rfl k) ?_
            refine hw_1 (fun k => x_aload dX34_join_252 rfl k) ?_
            replace h := ga_ck_some h; obtain ⟨hc254_1, h⟩ := h
            refine hw_1 (fun k => x_getf (v := D248 x4 1) dX34_join_254 fl_X34_242 hc254_1 rfl k) ?_
            replace h := ga_ck_some h; obtain ⟨hc257_2, h⟩ := h
            replace h := ga_bind_some h; obtain ⟨r257, D257, g257, h⟩ := h
            have hR257 := (h_J0_addAll_ok (G := G) hP g257)
            obtain ⟨hP257, hE257, -⟩ := id hR257
            refine hw_call (rest := []) hR257 (fun hc hk9 => x_callU (C := "java/util/HashSet") (owner := "java/util/AbstractCollection") (as := [(2, D248 x4 1)]) (rest := []) dX34_join_257 hc q4658 q4653 q4654 (Or.inr q4655) q4656 q4657 q399 hc257_2 rfl rfl (show _ ∧ _ ∧ _ = some 1 from by decide +kernel) (by decide) (by decide) rfl (Nat.le_of_ble_eq_true rfl) hk9 aw_nox) ?_
            refine hw_1 (fun k => x_pop dX34_join_260 rfl k) ?_
            refine hw_1 (fun k => x_aload dX34_join_261 rfl k) ?_
            refine hw_1 (fun k => x_getf (v := D257 x4 1) dX34_join_263 fl_X34_242 (h_kx hE257 hc254_1 (by decide)) rfl k) ?_
            replace h := ga_ck_some h; obtain ⟨hc266_3, h⟩ := h
            replace h := ga_bind_some h; obtain ⟨r266, D266, g266, h⟩ := h
            have hR266 := (h_J9_iterator_ok (G := G) hP257 g266)
            obtain ⟨hP266, hE266, -⟩ := id hR266
            refine hw_call (rest := []) hR266 (fun hc hk9 => x_callV (as := []) (rest := []) dX34_join_266 hc (lw_V q4718 q4427 q9601 q437 q4429) hc266_3 rfl rfl (show _ ∧ _ ∧ _ ∧ _ = some 0 from by decide +kernel) (by decide) (by decide) rfl (Nat.le_of_ble_eq_true rfl) hk9 aw_nox) ?_
            refine hw_1 (fun k => x_astore (ls' := [(7, (2, r266)), (0, (2, 5028)), (3, (2, x3)), (4, (2, x4)), (5, (0, x5))]) dX34_join_269 (by decide) rfl k) ?_
            refine hw_locs [1, 2, 4, 0] (ls' := [(0, (2, 5028)), (3, (2, x3)), (5, (0, x5)), (7, (2, r266))]) rfl ?_
            refine h_X34_join_l271_ok hq (fun x5 D315 hP h => ?_) hP266 h
            · refine hw_1 (fun k => x_iload dX34_join_315 rfl k) ?_
              obtain ⟨rfl, rfl⟩ := ga_end h
              exact hw_ret hP (x_iret dX34_join_317 rfl rfl trivial hq)
      · rw [if_neg c52] at h
        refine hw_1 (fun k => x_acmp_ne (tgt := 57) dX34_join_52 (by decide) hc52_4 (fun z => absurd z c52) (fun _ => k)) ?_
        refine hw_1 (fun k => x_iconst dX34_join_55 (by decide) k) ?_
        obtain ⟨rfl, rfl⟩ := ga_end h
        exact hw_ret hP38 (x_iret dX34_join_56 rfl rfl trivial hq)
    · rw [if_neg c13] at h
      refine hw_1 (fun k => x_if_ne (tgt := 18) dX34_join_13 (by decide) (fun z => absurd z c13) (fun _ => k)) ?_
      refine hw_1 (fun k => x_iconst dX34_join_16 (by decide) k) ?_
      obtain ⟨rfl, rfl⟩ := ga_end h
      exact hw_ret hP10 (x_iret dX34_join_17 rfl rfl trivial hq)
theorem h_X62_size_l11_ok {G : aw_G} {M0 : aw_M} {D' : ga_D} {Q : Option aw_V → aw_M → Prop} {r : Int} (hq : Q (some (0, r)) (hM D')) {k29 : Int → ga_D → ga_S} (hk29 : ∀ (x1 : Int) (D : ga_D), h_P D → k29 x1 D = some (r, D') → aw_HW G "WasteHouse$DepositCodes$Twice" cX62_size (some (.int)) 4 0 false M0 Q aw_no D' (hn D') (hsl D') 29 [(1, (0, x1))] [] D) : ∀ {n : Nat} {x1 x2 : Int} {D : ga_D}, h_P D → h_X62_size_l11 n x1 x2 D k29 = some (r, D') → aw_HW G "WasteHouse$DepositCodes$Twice" cX62_size (some (.int)) 4 0 false M0 Q aw_no D' (hn D') (hsl D') 11 [(1, (0, x1)), (2, (1, x2))] [] D := by
  intro n
  induction n with
  | zero => intro x1 x2 D hP h; exact absurd (h : (none : ga_S) = some (r, D')) (by intro h; cases h)
  | succ n ih =>
    intro x1 x2 D hP h
    have ih : ∀ (x1 x2 : Int) (D : ga_D), h_P D → h_X62_size_l11 n x1 x2 D k29 = some (r, D') → aw_HW G "WasteHouse$DepositCodes$Twice" cX62_size (some (.int)) 4 0 false M0 Q aw_no D' (hn D') (hsl D') 11 [(1, (0, x1)), (2, (1, x2))] [] D := fun x1 x2 D hP h => ih hP h
    replace h : (if x2 ≤ 0 then (k29 x1 D) else (ga_let (aw_w32 (x1 + 1)) (fun v17 => ga_let (aw_w64 (Int.tdiv x2 10)) (fun v25 => h_X62_size_l11 n v17 v25 D k29))) : ga_S) = some (r, D') := h
    refine hw_1 (fun k => x_lload_n dX62_size_11 rfl k) ?_
    refine hw_1 (fun k => x_lconst (v := 0) dX62_size_12 rfl k) ?_
    refine hw_1 (fun k => x_lcmp dX62_size_13 rfl k) ?_
    by_cases c14 : x2 ≤ 0
    · rw [if_pos c14] at h
      refine hw_1 (fun k => x_if_le (tgt := 29) dX62_size_14 (by decide) (fun _ => k) (fun z => absurd (cmi_le.mpr c14) z)) ?_
      refine hw_locs [0] (ls' := [(1, (0, x1))]) rfl ?_
      exact hk29 _ _ hP h
    · rw [if_neg c14] at h
      refine hw_1 (fun k => x_if_le (tgt := 29) dX62_size_14 (by decide) (fun z => absurd (cmi_le.mp z) c14) (fun _ => k)) ?_
      replace h := ga_let_some h; obtain ⟨v17, ev17, h⟩ := h
      refine hw_1 (fun k => x_iinc (ls' := [(1, (0, v17)), (2, (1, x2))]) dX62_size_17 rfl ev17.symm (by decide) rfl k) ?_
      refine hw_1 (fun k => x_lload_n dX62_size_20 rfl k) ?_
      refine hw_1 (fun k => x_ldc2 (z := 10) dX62_size_21 q4731 (by decide) k) ?_
      refine hw_1 (fun k => x_ldiv dX62_size_24 (by decide) rfl k) ?_
      replace h := ga_let_some h; obtain ⟨v25, ev25, h⟩ := h
      refine hw_nm ev25 ?_
      refine hw_1 (fun k => x_lstore_n (ls' := [(2, (1, v25)), (1, (0, v17))]) dX62_size_25 (by decide) rfl k) ?_
      refine hw_1 (fun k => x_goto (tgt := 11) dX62_size_26 (by decide) k) ?_
      refine hw_locs [1, 0] (ls' := [(1, (0, v17)), (2, (1, v25))]) rfl ?_
      exact ih _ _ _ hP h
theorem h_X62_size_ok {G : aw_G} {D D' : ga_D} {r : Int} {x0 : Int} (hP : h_P D) (h : h_X62_size x0 D = some (r, D')) : aw_HR yX62_size cX62_size 4 (some (.int)) 0 G [(2, x0)] D (some (0, r)) D' := by
  unfold h_X62_size at h
  refine hw_body (own := "WasteHouse$DepositCodes$Twice") (ini := false) (ls := [(0, (2, x0))]) rfl rfl (fun h => by cases h) (Nat.le_of_ble_eq_true rfl) rfl fun Q hq => ?_
  refine hw_1 (fun k => x_iconst dX62_size_0 (by decide) k) ?_
  refine hw_1 (fun k => x_istore_n (ls' := [(1, (0, 1)), (0, (2, x0))]) dX62_size_1 (by decide) rfl k) ?_
  refine hw_1 (fun k => x_aload_n dX62_size_2 rfl k) ?_
  replace h := ga_ck_some h; obtain ⟨hc3_0, h⟩ := h
  refine hw_1 (fun k => x_getf (v := D x0 0) dX62_size_3 fl_X62_9 hc3_0 rfl k) ?_
  refine hw_1 (fun k => x_ldc2 (z := 10) dX62_size_6 q4731 (by decide) k) ?_
  refine hw_1 (fun k => x_ldiv dX62_size_9 (by decide) rfl k) ?_
  replace h := ga_let_some h; obtain ⟨v10, ev10, h⟩ := h
  refine hw_nm ev10 ?_
  refine hw_1 (fun k => x_lstore_n (ls' := [(2, (1, v10)), (1, (0, 1)), (0, (2, x0))]) dX62_size_10 (by decide) rfl k) ?_
  refine hw_locs [1, 0] (ls' := [(1, (0, 1)), (2, (1, v10))]) rfl ?_
  refine h_X62_size_l11_ok hq (fun x1 D29 hP h => ?_) hP h
  · refine hw_1 (fun k => x_iload_n dX62_size_29 rfl k) ?_
    obtain ⟨rfl, rfl⟩ := ga_end h
    exact hw_ret hP (x_iret dX62_size_30 rfl rfl trivial hq)
theorem h_X62_decimal_l23_ok {G : aw_G} {M0 : aw_M} {D' : ga_D} {Q : Option aw_V → aw_M → Prop} {r : Int} (hq : Q (some (0, r)) (hM D')) {k41 : Int → ga_D → ga_S} (hk41 : ∀ (x3 : Int) (D : ga_D), h_P D → k41 x3 D = some (r, D') → aw_HW G "WasteHouse$DepositCodes$Twice" cX62_decimal (some (.int)) 6 1 false M0 Q aw_no D' (hn D') (hsl D') 41 [(3, (1, x3))] [] D) : ∀ {n : Nat} {x2 x3 x5 : Int} {D : ga_D}, h_P D → h_X62_decimal_l23 n x2 x3 x5 D k41 = some (r, D') → aw_HW G "WasteHouse$DepositCodes$Twice" cX62_decimal (some (.int)) 6 1 false M0 Q aw_no D' (hn D') (hsl D') 23 [(2, (0, x2)), (3, (1, x3)), (5, (0, x5))] [] D := by
  intro n
  induction n with
  | zero => intro x2 x3 x5 D hP h; exact absurd (h : (none : ga_S) = some (r, D')) (by intro h; cases h)
  | succ n ih =>
    intro x2 x3 x5 D hP h
    have ih : ∀ (x2 x3 x5 : Int) (D : ga_D), h_P D → h_X62_decimal_l23 n x2 x3 x5 D k41 = some (r, D') → aw_HW G "WasteHouse$DepositCodes$Twice" cX62_decimal (some (.int)) 6 1 false M0 Q aw_no D' (hn D') (hsl D') 23 [(2, (0, x2)), (3, (1, x3)), (5, (0, x5))] [] D := fun x2 x3 x5 D hP h => ih hP h
    replace h : (if x2 ≤ x5 then (k41 x3 D) else (ga_let (aw_w64 (Int.tdiv x3 10)) (fun v34 => ga_let (aw_w32 (x5 + 1)) (fun v35 => h_X62_decimal_l23 n x2 v34 v35 D k41))) : ga_S) = some (r, D') := h
    refine hw_1 (fun k => x_iload dX62_decimal_23 rfl k) ?_
    refine hw_1 (fun k => x_iload_n dX62_decimal_25 rfl k) ?_
    by_cases c26 : x2 ≤ x5
    · rw [if_pos c26] at h
      refine hw_1 (fun k => x_icmp_ge (tgt := 41) dX62_decimal_26 (by decide) (fun _ => k) (fun z => absurd c26 z)) ?_
      refine hw_locs [1] (ls' := [(3, (1, x3))]) rfl ?_
      exact hk41 _ _ hP h
    · rw [if_neg c26] at h
      refine hw_1 (fun k => x_icmp_ge (tgt := 41) dX62_decimal_26 (by decide) (fun z => absurd z c26) (fun _ => k)) ?_
      refine hw_1 (fun k => x_lload_n dX62_decimal_29 rfl k) ?_
      refine hw_1 (fun k => x_ldc2 (z := 10) dX62_decimal_30 q4731 (by decide) k) ?_
      refine hw_1 (fun k => x_ldiv dX62_decimal_33 (by decide) rfl k) ?_
      replace h := ga_let_some h; obtain ⟨v34, ev34, h⟩ := h
      refine hw_nm ev34 ?_
      refine hw_1 (fun k => x_lstore_n (ls' := [(3, (1, v34)), (2, (0, x2)), (5, (0, x5))]) dX62_decimal_34 (by decide) rfl k) ?_
      replace h := ga_let_some h; obtain ⟨v35, ev35, h⟩ := h
      refine hw_1 (fun k => x_iinc (ls' := [(5, (0, v35)), (3, (1, v34)), (2, (0, x2))]) dX62_decimal_35 rfl ev35.symm (by decide) rfl k) ?_
      refine hw_1 (fun k => x_goto (tgt := 23) dX62_decimal_38 (by decide) k) ?_
      refine hw_locs [2, 1, 0] (ls' := [(2, (0, x2)), (3, (1, v34)), (5, (0, v35))]) rfl ?_
      exact ih _ _ _ _ hP h
theorem h_X62_decimal_ok {G : aw_G} {D D' : ga_D} {r : Int} {x0 x1 : Int} (hP : h_P D) (h : h_X62_decimal x0 x1 D = some (r, D')) : aw_HR yX62_decimal cX62_decimal 6 (some (.int)) 1 G [(2, x0), (0, x1)] D (some (0, r)) D' := by
  unfold h_X62_decimal at h
  refine hw_body (own := "WasteHouse$DepositCodes$Twice") (ini := false) (ls := [(0, (2, x0)), (1, (0, x1))]) rfl rfl (fun h => by cases h) (Nat.le_of_ble_eq_true rfl) rfl fun Q hq => ?_
  refine hw_1 (fun k => x_aload_n dX62_decimal_0 rfl k) ?_
  replace h := ga_ck_some h; obtain ⟨hc1_0, h⟩ := h
  replace h := ga_bind_some h; obtain ⟨r1, D1, g1, h⟩ := h
  have hR1 := (h_X62_size_ok (G := G) hP g1)
  obtain ⟨hP1, hE1, -⟩ := id hR1
  refine hw_call (rest := []) hR1 (fun hc hk9 => x_callV (as := []) (rest := []) dX62_decimal_1 hc (lw_V q4727 q4729 qs46 q500 q4730) hc1_0 rfl rfl (show _ ∧ _ ∧ _ ∧ _ = some 0 from by decide +kernel) (by decide) (by decide) rfl (Nat.le_of_ble_eq_true rfl) hk9 aw_nox) ?_
  refine hw_1 (fun k => x_iconst dX62_decimal_4 (by decide) k) ?_
  refine hw_1 (fun k => x_isub dX62_decimal_5 rfl k) ?_
  refine hw_1 (fun k => x_iload_n dX62_decimal_6 rfl k) ?_
  refine hw_1 (fun k => x_isub dX62_decimal_7 rfl k) ?_
  replace h := ga_let_some h; obtain ⟨v8, ev8, h⟩ := h
  refine hw_nm ev8 ?_
  refine hw_1 (fun k => x_istore_n (ls' := [(2, (0, v8)), (0, (2, x0)), (1, (0, x1))]) dX62_decimal_8 (by decide) rfl k) ?_
  refine hw_1 (fun k => x_iload_n dX62_decimal_9 rfl k) ?_
  by_cases c10 : 0 ≤ v8
  · rw [if_pos c10] at h
    refine hw_1 (fun k => x_if_ge (tgt := 15) dX62_decimal_10 (by decide) (fun _ => k) (fun z => absurd c10 z)) ?_
    refine hw_1 (fun k => x_aload_n dX62_decimal_15 rfl k) ?_
    refine hw_1 (fun k => x_getf (v := D1 x0 0) dX62_decimal_16 fl_X62_9 (h_kx hE1 hc1_0 (by decide)) rfl k) ?_
    replace h := ga_let_some h; obtain ⟨v19, ev19, h⟩ := h
    refine hw_nm ev19 ?_
    refine hw_1 (fun k => x_lstore_n (ls' := [(3, (1, v19)), (2, (0, v8)), (0, (2, x0)), (1, (0, x1))]) dX62_decimal_19 (by decide) rfl k) ?_
    refine hw_1 (fun k => x_iconst dX62_decimal_20 (by decide) k) ?_
    refine hw_1 (fun k => x_istore (ls' := [(5, (0, 0)), (3, (1, v19)), (2, (0, v8)), (0, (2, x0)), (1, (0, x1))]) dX62_decimal_21 (by decide) rfl k) ?_
    refine hw_locs [2, 1, 0] (ls' := [(2, (0, v8)), (3, (1, v19)), (5, (0, 0))]) rfl ?_
    refine h_X62_decimal_l23_ok hq (fun x3 D41 hP h => ?_) hP1 h
    · refine hw_1 (fun k => x_lload_n dX62_decimal_41 rfl k) ?_
      refine hw_1 (fun k => x_ldc2 (z := 10) dX62_decimal_42 q4731 (by decide) k) ?_
      refine hw_1 (fun k => x_lrem dX62_decimal_45 (by decide) rfl k) ?_
      refine hw_1 (fun k => x_l2i dX62_decimal_46 rfl k) ?_
      obtain ⟨rfl, rfl⟩ := ga_end h
      exact hw_ret hP (x_iret dX62_decimal_47 rfl rfl trivial hq)
  · rw [if_neg c10] at h
    refine hw_1 (fun k => x_if_ge (tgt := 15) dX62_decimal_10 (by decide) (fun z => absurd z c10) (fun _ => k)) ?_
    refine hw_1 (fun k => x_iconst dX62_decimal_13 (by decide) k) ?_
    obtain ⟨rfl, rfl⟩ := ga_end h
    exact hw_ret hP1 (x_iret dX62_decimal_14 rfl rfl trivial hq)
theorem h_X62_of_ok {G : aw_G} {D D' : ga_D} {r : Int} {x0 x1 : Int} (hP : h_P D) (h : h_X62_of x0 x1 D = some (r, D')) : aw_HR yX62_of cX62_of 2 (some (.int)) 2 G [(2, x0), (0, x1)] D (some (0, r)) D' := by
  unfold h_X62_of at h
  refine hw_body (own := "WasteHouse$DepositCodes$Twice") (ini := false) (ls := [(0, (2, x0)), (1, (0, x1))]) rfl rfl (fun h => by cases h) (Nat.le_of_ble_eq_true rfl) rfl fun Q hq => ?_
  refine hw_1 (fun k => x_iload_n dX62_of_0 rfl k) ?_
  by_cases n1_0 : x1 = 0
  · rw [if_pos n1_0] at h
    refine hw_1 (fun k => x_tin (tgt := 28) dX62_of_1 (by omega) (by omega) (by rw [n1_0]; rfl) (by decide) k) ?_
    refine hw_1 (fun k => x_aload_n dX62_of_28 rfl k) ?_
    replace h := ga_ck_some h; obtain ⟨hc29_0, h⟩ := h
    refine hw_1 (fun k => x_getf (v := D x0 1) dX62_of_29 fl_X62_15 hc29_0 rfl k) ?_
    obtain ⟨rfl, rfl⟩ := ga_end h
    exact hw_ret hP (x_iret dX62_of_32 rfl rfl trivial hq)
  rw [if_neg n1_0] at h
  by_cases n1_1 : x1 = 1
  · rw [if_pos n1_1] at h
    refine hw_1 (fun k => x_tin (tgt := 33) dX62_of_1 (by omega) (by omega) (by rw [n1_1]; rfl) (by decide) k) ?_
    refine hw_1 (fun k => x_aload_n dX62_of_33 rfl k) ?_
    replace h := ga_ck_some h; obtain ⟨hc34_0, h⟩ := h
    refine hw_1 (fun k => x_getf (v := D x0 2) dX62_of_34 fl_X62_19 hc34_0 rfl k) ?_
    obtain ⟨rfl, rfl⟩ := ga_end h
    exact hw_ret hP (x_iret dX62_of_37 rfl rfl trivial hq)
  rw [if_neg n1_1] at h
  by_cases n1_2 : x1 = 2
  · rw [if_pos n1_2] at h
    refine hw_1 (fun k => x_tin (tgt := 38) dX62_of_1 (by omega) (by omega) (by rw [n1_2]; rfl) (by decide) k) ?_
    refine hw_1 (fun k => x_aload_n dX62_of_38 rfl k) ?_
    replace h := ga_ck_some h; obtain ⟨hc39_0, h⟩ := h
    replace h := ga_bind_some h; obtain ⟨r39, D39, g39, h⟩ := h
    have hR39 := (h_X62_size_ok (G := G) hP g39)
    obtain ⟨hP39, hE39, -⟩ := id hR39
    refine hw_call (rest := []) hR39 (fun hc hk9 => x_callV (as := []) (rest := []) dX62_of_39 hc (lw_V q4727 q4729 qs46 q500 q4730) hc39_0 rfl rfl (show _ ∧ _ ∧ _ ∧ _ = some 0 from by decide +kernel) (by decide) (by decide) rfl (Nat.le_of_ble_eq_true rfl) hk9 aw_nox) ?_
    obtain ⟨rfl, rfl⟩ := ga_end h
    exact hw_ret hP39 (x_iret dX62_of_42 rfl rfl trivial hq)
  rw [if_neg n1_2] at h
  by_cases o1 : x1 < 0 ∨ 2 < x1
  · refine hw_1 (fun k => x_tout (tgt := 43) dX62_of_1 o1 (by decide) k) ?_
    refine hw_1 (fun k => x_aload_n dX62_of_43 rfl k) ?_
    refine hw_1 (fun k => x_iload_n dX62_of_44 rfl k) ?_
    refine hw_1 (fun k => x_iconst dX62_of_45 (by decide) k) ?_
    refine hw_1 (fun k => x_isub dX62_of_46 rfl k) ?_
    replace h := ga_ck_some h; obtain ⟨hc47_0, h⟩ := h
    replace h := ga_bind_some h; obtain ⟨r47, D47, g47, h⟩ := h
    have hR47 := (h_X62_decimal_ok (G := G) hP g47)
    obtain ⟨hP47, hE47, -⟩ := id hR47
    refine hw_call (rest := []) hR47 (fun hc hk9 => x_callV (as := [(0, aw_w32 (x1 - 3))]) (rest := []) dX62_of_47 hc (lw_V q4732 q4734 qs47 q500 q4735) hc47_0 rfl rfl (show _ ∧ _ ∧ _ ∧ _ = some 1 from by decide +kernel) (by decide) (by decide) rfl (Nat.le_of_ble_eq_true rfl) hk9 aw_nox) ?_
    obtain ⟨rfl, rfl⟩ := ga_end h
    exact hw_ret hP47 (x_iret dX62_of_50 rfl rfl trivial hq)
  · exfalso; omega
theorem h_X34_double2_ok {G : aw_G} {D D' : ga_D} {r : Int} {x1 x2 : Int} (hP : h_P D) (h : h_X34_double2 x1 x2 D = some (r, D')) : aw_HR yX34_double2 cX34_double2 3 (some (.int)) 3 G [(2, 5028), (0, x1), (0, x2)] D (some (0, r)) D' := by
  unfold h_X34_double2 at h
  refine hw_body (own := "WasteHouse$DepositCodes") (ini := false) (ls := [(0, (2, 5028)), (1, (0, x1)), (2, (0, x2))]) rfl rfl (fun h => by cases h) (Nat.le_of_ble_eq_true rfl) rfl fun Q hq => ?_
  refine hw_1 (fun k => x_iload_n dX34_double2_0 rfl k) ?_
  by_cases c1 : x1 < 0
  · rw [if_pos c1] at h
    refine hw_1 (fun k => x_if_lt (tgt := 25) dX34_double2_1 (by decide) (fun _ => k) (fun z => absurd c1 z)) ?_
    refine hw_1 (fun k => x_iconst dX34_double2_25 (by decide) k) ?_
    refine hw_1 (fun k => x_goto (tgt := 44) dX34_double2_26 (by decide) k) ?_
    obtain ⟨rfl, rfl⟩ := ga_end h
    exact hw_ret hP (x_iret dX34_double2_44 rfl rfl trivial hq)
  · rw [if_neg c1] at h
    refine hw_1 (fun k => x_if_lt (tgt := 25) dX34_double2_1 (by decide) (fun z => absurd z c1) (fun _ => k)) ?_
    refine hw_1 (fun k => x_iload_n dX34_double2_4 rfl k) ?_
    refine hw_1 (fun k => x_aload_n dX34_double2_5 rfl k) ?_
    refine hw_1 (fun k => x_getf (v := 5035) dX34_double2_6 fl_X34_29 (hkS (D := D) (show ga_K 5028 = (31, 0) from by decide +kernel) (by decide)) (hP.1 5028 3 5035 (by decide +kernel)) k) ?_
    replace h := ga_bind_some h; obtain ⟨r9, D9, g9, h⟩ := h
    have hR9 := (h_J2_size_ok (G := G) hP g9)
    obtain ⟨hP9, hE9, -⟩ := id hR9
    refine hw_call (rest := [(0, x1)]) hR9 (fun hc hk9 => x_callV (as := []) (rest := [(0, x1)]) dX34_double2_9 hc (lw_V q3529 q3530 q3531 q401 q3532) (hkS (D := D) (show ga_K 5035 = (60, 0) from by decide +kernel) (by decide)) rfl rfl (show _ ∧ _ ∧ _ ∧ _ = some 0 from by decide +kernel) (by decide) (by decide) rfl (Nat.le_of_ble_eq_true rfl) hk9 aw_nox) ?_
    by_cases c12 : r9 ≤ x1
    · rw [if_pos c12] at h
      refine hw_1 (fun k => x_icmp_ge (tgt := 25) dX34_double2_12 (by decide) (fun _ => k) (fun z => absurd c12 z)) ?_
      refine hw_1 (fun k => x_iconst dX34_double2_25 (by decide) k) ?_
      refine hw_1 (fun k => x_goto (tgt := 44) dX34_double2_26 (by decide) k) ?_
      obtain ⟨rfl, rfl⟩ := ga_end h
      exact hw_ret hP9 (x_iret dX34_double2_44 rfl rfl trivial hq)
    · rw [if_neg c12] at h
      refine hw_1 (fun k => x_icmp_ge (tgt := 25) dX34_double2_12 (by decide) (fun z => absurd z c12) (fun _ => k)) ?_
      refine hw_1 (fun k => x_iload_n dX34_double2_15 rfl k) ?_
      by_cases c16 : x2 < 0
      · rw [if_pos c16] at h
        refine hw_1 (fun k => x_if_lt (tgt := 25) dX34_double2_16 (by decide) (fun _ => k) (fun z => absurd c16 z)) ?_
        refine hw_1 (fun k => x_iconst dX34_double2_25 (by decide) k) ?_
        refine hw_1 (fun k => x_goto (tgt := 44) dX34_double2_26 (by decide) k) ?_
        obtain ⟨rfl, rfl⟩ := ga_end h
        exact hw_ret hP9 (x_iret dX34_double2_44 rfl rfl trivial hq)
      · rw [if_neg c16] at h
        refine hw_1 (fun k => x_if_lt (tgt := 25) dX34_double2_16 (by decide) (fun z => absurd z c16) (fun _ => k)) ?_
        refine hw_1 (fun k => x_iload_n dX34_double2_19 rfl k) ?_
        refine hw_1 (fun k => x_bipush dX34_double2_20 (by decide) k) ?_
        by_cases c22 : x2 ≤ 20
        · rw [if_pos c22] at h
          refine hw_1 (fun k => x_icmp_le (tgt := 29) dX34_double2_22 (by decide) (fun _ => k) (fun z => absurd c22 z)) ?_
          refine hw_1 (fun k => x_aload_n dX34_double2_29 rfl k) ?_
          refine hw_1 (fun k => x_getf (v := 5035) dX34_double2_30 fl_X34_29 (hkS (D := D9) (show ga_K 5028 = (31, 0) from by decide +kernel) (by decide)) (hP9.1 5028 3 5035 (by decide +kernel)) k) ?_
          refine hw_1 (fun k => x_iload_n dX34_double2_33 rfl k) ?_
          replace h := ga_bind_some h; obtain ⟨r34, D34, g34, h⟩ := h
          have hR34 := (h_J2_get_ok (G := G) hP9 g34)
          obtain ⟨hP34, hE34, -⟩ := id hR34
          refine hw_call (rest := []) hR34 (fun hc hk9 => x_callV (as := [(0, x1)]) (rest := []) dX34_double2_34 hc (lw_V q4174 q3183 q3184 q401 q3185) (hkS (D := D9) (show ga_K 5035 = (60, 0) from by decide +kernel) (by decide)) rfl rfl (show _ ∧ _ ∧ _ ∧ _ = some 1 from by decide +kernel) (by decide) (by decide) rfl (Nat.le_of_ble_eq_true rfl) hk9 aw_nox) ?_
          replace h := ga_ck_some h; obtain ⟨hc37_0, h⟩ := h
          refine hw_1 (fun k => x_castL (L := [57]) dX34_double2_37 q4508 sbl_WasteHouse_DepositCodes_Twice (aw_or1 hc37_0) k) ?_
          refine hw_1 (fun k => x_iload_n dX34_double2_40 rfl k) ?_
          replace h := ga_ck_some h; obtain ⟨hc41_1, h⟩ := h
          replace h := ga_bind_some h; obtain ⟨r41, D41, g41, h⟩ := h
          have hR41 := (h_X62_of_ok (G := G) hP34 g41)
          obtain ⟨hP41, hE41, -⟩ := id hR41
          refine hw_call (rest := []) hR41 (fun hc hk9 => x_callV (as := [(0, x2)]) (rest := []) dX34_double2_41 hc (lw_V q4723 q4724 q4725 q500 q4726) hc41_1 rfl rfl (show _ ∧ _ ∧ _ ∧ _ = some 1 from by decide +kernel) (by decide) (by decide) rfl (Nat.le_of_ble_eq_true rfl) hk9 aw_nox) ?_
          obtain ⟨rfl, rfl⟩ := ga_end h
          exact hw_ret hP41 (x_iret dX34_double2_44 rfl rfl trivial hq)
        · rw [if_neg c22] at h
          refine hw_1 (fun k => x_icmp_le (tgt := 29) dX34_double2_22 (by decide) (fun z => absurd z c22) (fun _ => k)) ?_
          refine hw_1 (fun k => x_iconst dX34_double2_25 (by decide) k) ?_
          refine hw_1 (fun k => x_goto (tgt := 44) dX34_double2_26 (by decide) k) ?_
          obtain ⟨rfl, rfl⟩ := ga_end h
          exact hw_ret hP9 (x_iret dX34_double2_44 rfl rfl trivial hq)
theorem h_X34_mark_ok {G : aw_G} {D D' : ga_D} {r : Int} {x1 x3 x5 : Int} (hP : h_P D) (h : h_X34_mark x1 x3 x5 D = some (r, D')) : aw_HR yX34_mark cX34_mark 11 (some (.boolean)) 1 G [(2, 5028), (1, x1), (1, x3), (1, x5)] D (some (0, r)) D' := by
  unfold h_X34_mark at h
  refine hw_body (own := "WasteHouse$DepositCodes") (ini := false) (ls := [(0, (2, 5028)), (1, (1, x1)), (3, (1, x3)), (5, (1, x5))]) rfl rfl (fun h => by cases h) (Nat.le_of_ble_eq_true rfl) rfl fun Q hq => ?_
  refine hw_1 (fun k => x_lload_n dX34_mark_0 rfl k) ?_
  replace h := ga_bind_some h; obtain ⟨r1, D1, g1, h⟩ := h
  have hR1 := (h_X58_is_ok (G := G) hP g1)
  obtain ⟨hP1, hE1, -⟩ := id hR1
  refine hw_call (rest := []) hR1 (fun hc hk9 => x_callS (as := [(1, x1)]) (rest := []) dX34_mark_1 hc (lw_S q3509 q3510 q481 q3511) (show _ ∧ _ ∧ _ = some 1 from by decide +kernel) (by decide) (by decide) rfl (Nat.le_of_ble_eq_true rfl) hk9 aw_nox) ?_
  by_cases c4 : r1 = 0
  · rw [if_pos c4] at h
    refine hw_1 (fun k => x_if_eq (tgt := 14) dX34_mark_4 (by decide) (fun _ => k) (fun z => absurd c4 z)) ?_
    refine hw_1 (fun k => x_iconst dX34_mark_14 (by decide) k) ?_
    obtain ⟨rfl, rfl⟩ := ga_end h
    exact hw_ret hP1 (x_iret dX34_mark_15 rfl rfl (show (0 : Int) ≤ 0 ∧ (0 : Int) < 2 from by decide) hq)
  · rw [if_neg c4] at h
    refine hw_1 (fun k => x_if_eq (tgt := 14) dX34_mark_4 (by decide) (fun z => absurd z c4) (fun _ => k)) ?_
    refine hw_1 (fun k => x_lload_n dX34_mark_7 rfl k) ?_
    replace h := ga_bind_some h; obtain ⟨r8, D8, g8, h⟩ := h
    have hR8 := (h_X58_is_ok (G := G) hP1 g8)
    obtain ⟨hP8, hE8, -⟩ := id hR8
    refine hw_call (rest := []) hR8 (fun hc hk9 => x_callS (as := [(1, x3)]) (rest := []) dX34_mark_8 hc (lw_S q3509 q3510 q481 q3511) (show _ ∧ _ ∧ _ = some 1 from by decide +kernel) (by decide) (by decide) rfl (Nat.le_of_ble_eq_true rfl) hk9 aw_nox) ?_
    by_cases c11 : r8 ≠ 0
    · rw [if_pos c11] at h
      refine hw_1 (fun k => x_if_ne (tgt := 16) dX34_mark_11 (by decide) (fun _ => k) (fun z => absurd c11 z)) ?_
      refine hw_1 (fun k => x_lload_n dX34_mark_16 rfl k) ?_
      refine hw_1 (fun k => x_ldc2 (z := 99991) dX34_mark_17 q4740 (by decide) k) ?_
      refine hw_1 (fun k => x_lrem dX34_mark_20 (by decide) rfl k) ?_
      replace h := ga_let_some h; obtain ⟨v21, ev21, h⟩ := h
      refine hw_nm ev21 ?_
      refine hw_1 (fun k => x_lstore (ls' := [(7, (1, v21)), (0, (2, 5028)), (1, (1, x1)), (3, (1, x3)), (5, (1, x5))]) dX34_mark_21 (by decide) rfl k) ?_
      refine hw_1 (fun k => x_lload_n dX34_mark_23 rfl k) ?_
      refine hw_1 (fun k => x_ldc2 (z := 99991) dX34_mark_24 q4740 (by decide) k) ?_
      refine hw_1 (fun k => x_lrem dX34_mark_27 (by decide) rfl k) ?_
      replace h := ga_let_some h; obtain ⟨v28, ev28, h⟩ := h
      refine hw_nm ev28 ?_
      refine hw_1 (fun k => x_lstore (ls' := [(9, (1, v28)), (7, (1, v21)), (0, (2, 5028)), (1, (1, x1)), (3, (1, x3)), (5, (1, x5))]) dX34_mark_28 (by decide) rfl k) ?_
      refine hw_1 (fun k => x_lload dX34_mark_30 rfl k) ?_
      refine hw_1 (fun k => x_ldc2 (z := 7) dX34_mark_32 q4741 (by decide) k) ?_
      refine hw_1 (fun k => x_lload dX34_mark_35 rfl k) ?_
      refine hw_1 (fun k => x_lmul dX34_mark_37 rfl k) ?_
      refine hw_1 (fun k => x_ladd dX34_mark_38 rfl k) ?_
      refine hw_1 (fun k => x_lload dX34_mark_39 rfl k) ?_
      refine hw_1 (fun k => x_ldc2 (z := 13) dX34_mark_41 q4742 (by decide) k) ?_
      refine hw_1 (fun k => x_lload dX34_mark_44 rfl k) ?_
      refine hw_1 (fun k => x_lmul dX34_mark_46 rfl k) ?_
      refine hw_1 (fun k => x_ladd dX34_mark_47 rfl k) ?_
      refine hw_1 (fun k => x_lconst (v := 1) dX34_mark_48 rfl k) ?_
      refine hw_1 (fun k => x_ladd dX34_mark_49 rfl k) ?_
      refine hw_1 (fun k => x_lmul dX34_mark_50 rfl k) ?_
      refine hw_1 (fun k => x_ldc2 (z := 10000) dX34_mark_51 q4743 (by decide) k) ?_
      refine hw_1 (fun k => x_lrem dX34_mark_54 (by decide) rfl k) ?_
      refine hw_1 (fun k => x_lload dX34_mark_55 rfl k) ?_
      refine hw_1 (fun k => x_lcmp dX34_mark_57 rfl k) ?_
      by_cases c58 : Int.tmod (aw_w64 ((aw_w64 (v21 + (aw_w64 (7 * v28)))) * (aw_w64 ((aw_w64 (v21 + (aw_w64 (13 * v28)))) + 1)))) 10000 ≠ x5
      · rw [if_pos c58] at h
        refine hw_1 (fun k => x_if_ne (tgt := 65) dX34_mark_58 (by decide) (fun _ => k) (fun z => absurd (cmi_ne.mpr c58) z)) ?_
        refine hw_1 (fun k => x_iconst dX34_mark_65 (by decide) k) ?_
        obtain ⟨rfl, rfl⟩ := ga_end h
        exact hw_ret hP8 (x_iret dX34_mark_66 rfl rfl (show (0 : Int) ≤ 0 ∧ (0 : Int) < 2 from by decide) hq)
      · rw [if_neg c58] at h
        refine hw_1 (fun k => x_if_ne (tgt := 65) dX34_mark_58 (by decide) (fun z => absurd (cmi_ne.mp z) c58) (fun _ => k)) ?_
        refine hw_1 (fun k => x_iconst dX34_mark_61 (by decide) k) ?_
        refine hw_1 (fun k => x_goto (tgt := 66) dX34_mark_62 (by decide) k) ?_
        obtain ⟨rfl, rfl⟩ := ga_end h
        exact hw_ret hP8 (x_iret dX34_mark_66 rfl rfl (show (0 : Int) ≤ 1 ∧ (1 : Int) < 2 from by decide) hq)
    · rw [if_neg c11] at h
      refine hw_1 (fun k => x_if_ne (tgt := 16) dX34_mark_11 (by decide) (fun z => absurd z c11) (fun _ => k)) ?_
      refine hw_1 (fun k => x_iconst dX34_mark_14 (by decide) k) ?_
      obtain ⟨rfl, rfl⟩ := ga_end h
      exact hw_ret hP8 (x_iret dX34_mark_15 rfl rfl (show (0 : Int) ≤ 0 ∧ (0 : Int) < 2 from by decide) hq)
theorem h_X34_coupon_ok {G : aw_G} {D D' : ga_D} {r : Int} {x1 : Int} (hP : h_P D) (h : h_X34_coupon x1 D = some (r, D')) : aw_HR yX34_coupon cX34_coupon 3 (some (.int)) 13 G [(2, 5028), (0, x1)] D (some (0, r)) D' := by
  unfold h_X34_coupon at h
  refine hw_body (own := "WasteHouse$DepositCodes") (ini := false) (ls := [(0, (2, 5028)), (1, (0, x1))]) rfl rfl (fun h => by cases h) (Nat.le_of_ble_eq_true rfl) rfl fun Q hq => ?_
  refine hw_1 (fun k => x_aload_n dX34_coupon_0 rfl k) ?_
  refine hw_1 (fun k => x_iload_n dX34_coupon_1 rfl k) ?_
  replace h := ga_bind_some h; obtain ⟨r2, D2, g2, h⟩ := h
  have hR2 := (h_X34_isMachine_ok (G := G) hP g2)
  obtain ⟨hP2, hE2, -⟩ := id hR2
  refine hw_call (rest := []) hR2 (fun hc hk9 => x_callV (as := [(0, x1)]) (rest := []) dX34_coupon_2 hc (lw_V q4170 q4172 qs32 q433 q4173) (hkS (D := D) (show ga_K 5028 = (31, 0) from by decide +kernel) (by decide)) rfl rfl (show _ ∧ _ ∧ _ ∧ _ = some 1 from by decide +kernel) (by decide) (by decide) rfl (Nat.le_of_ble_eq_true rfl) hk9 aw_nox) ?_
  by_cases c5 : r2 = 0
  · rw [if_pos c5] at h
    refine hw_1 (fun k => x_if_eq (tgt := 42) dX34_coupon_5 (by decide) (fun _ => k) (fun z => absurd c5 z)) ?_
    refine hw_1 (fun k => x_iconst dX34_coupon_42 (by decide) k) ?_
    obtain ⟨rfl, rfl⟩ := ga_end h
    exact hw_ret hP2 (x_iret dX34_coupon_43 rfl rfl trivial hq)
  · rw [if_neg c5] at h
    refine hw_1 (fun k => x_if_eq (tgt := 42) dX34_coupon_5 (by decide) (fun z => absurd z c5) (fun _ => k)) ?_
    refine hw_1 (fun k => x_aload_n dX34_coupon_8 rfl k) ?_
    refine hw_1 (fun k => x_getf (v := 5033) dX34_coupon_9 fl_X34_19 (hkS (D := D2) (show ga_K 5028 = (31, 0) from by decide +kernel) (by decide)) (hP2.1 5028 1 5033 (by decide +kernel)) k) ?_
    refine hw_1 (fun k => x_iload_n dX34_coupon_12 rfl k) ?_
    replace h := ga_bind_some h; obtain ⟨r13, D13, g13, h⟩ := h
    have hR13 := (h_J2_get_ok (G := G) hP2 g13)
    obtain ⟨hP13, hE13, -⟩ := id hR13
    refine hw_call (rest := []) hR13 (fun hc hk9 => x_callV (as := [(0, x1)]) (rest := []) dX34_coupon_13 hc (lw_V q4174 q3183 q3184 q401 q3185) (hkS (D := D2) (show ga_K 5033 = (60, 0) from by decide +kernel) (by decide)) rfl rfl (show _ ∧ _ ∧ _ ∧ _ = some 1 from by decide +kernel) (by decide) (by decide) rfl (Nat.le_of_ble_eq_true rfl) hk9 aw_nox) ?_
    replace h := ga_ck_some h; obtain ⟨hc16_0, h⟩ := h
    refine hw_1 (fun k => x_castL (L := [54]) dX34_coupon_16 q3533 sbl_WasteHouse_DepositCodes_Machine (aw_or1 hc16_0) k) ?_
    replace h := ga_ck_some h; obtain ⟨hc19_1, h⟩ := h
    refine hw_1 (fun k => x_getf (v := D13 r13 3) dX34_coupon_19 fl_X34_120 hc19_1 rfl k) ?_
    by_cases c22 : D13 r13 3 = 0
    · rw [if_pos c22] at h
      refine hw_1 (fun k => x_if_eq (tgt := 42) dX34_coupon_22 (by decide) (fun _ => k) (fun z => absurd c22 z)) ?_
      refine hw_1 (fun k => x_iconst dX34_coupon_42 (by decide) k) ?_
      obtain ⟨rfl, rfl⟩ := ga_end h
      exact hw_ret hP13 (x_iret dX34_coupon_43 rfl rfl trivial hq)
    · rw [if_neg c22] at h
      refine hw_1 (fun k => x_if_eq (tgt := 42) dX34_coupon_22 (by decide) (fun z => absurd z c22) (fun _ => k)) ?_
      refine hw_1 (fun k => x_aload_n dX34_coupon_25 rfl k) ?_
      refine hw_1 (fun k => x_getf (v := 5033) dX34_coupon_26 fl_X34_19 (hkS (D := D13) (show ga_K 5028 = (31, 0) from by decide +kernel) (by decide)) (hP13.1 5028 1 5033 (by decide +kernel)) k) ?_
      refine hw_1 (fun k => x_iload_n dX34_coupon_29 rfl k) ?_
      replace h := ga_bind_some h; obtain ⟨r30, D30, g30, h⟩ := h
      have hR30 := (h_J2_get_ok (G := G) hP13 g30)
      obtain ⟨hP30, hE30, -⟩ := id hR30
      refine hw_call (rest := []) hR30 (fun hc hk9 => x_callV (as := [(0, x1)]) (rest := []) dX34_coupon_30 hc (lw_V q4174 q3183 q3184 q401 q3185) (hkS (D := D13) (show ga_K 5033 = (60, 0) from by decide +kernel) (by decide)) rfl rfl (show _ ∧ _ ∧ _ ∧ _ = some 1 from by decide +kernel) (by decide) (by decide) rfl (Nat.le_of_ble_eq_true rfl) hk9 aw_nox) ?_
      replace h := ga_ck_some h; obtain ⟨hc33_0, h⟩ := h
      refine hw_1 (fun k => x_castL (L := [54]) dX34_coupon_33 q3533 sbl_WasteHouse_DepositCodes_Machine (aw_or1 hc33_0) k) ?_
      replace h := ga_ck_some h; obtain ⟨hc36_1, h⟩ := h
      refine hw_1 (fun k => x_getf (v := D30 r30 5) dX34_coupon_36 fl_X34_188 hc36_1 rfl k) ?_
      by_cases c39 : D30 r30 5 ≠ 0
      · rw [if_pos c39] at h
        refine hw_1 (fun k => x_if_ne (tgt := 44) dX34_coupon_39 (by decide) (fun _ => k) (fun z => absurd c39 z)) ?_
        refine hw_1 (fun k => x_aload_n dX34_coupon_44 rfl k) ?_
        refine hw_1 (fun k => x_getf (v := 5033) dX34_coupon_45 fl_X34_19 (hkS (D := D30) (show ga_K 5028 = (31, 0) from by decide +kernel) (by decide)) (hP30.1 5028 1 5033 (by decide +kernel)) k) ?_
        refine hw_1 (fun k => x_iload_n dX34_coupon_48 rfl k) ?_
        replace h := ga_bind_some h; obtain ⟨r49, D49, g49, h⟩ := h
        have hR49 := (h_J2_get_ok (G := G) hP30 g49)
        obtain ⟨hP49, hE49, -⟩ := id hR49
        refine hw_call (rest := []) hR49 (fun hc hk9 => x_callV (as := [(0, x1)]) (rest := []) dX34_coupon_49 hc (lw_V q4174 q3183 q3184 q401 q3185) (hkS (D := D30) (show ga_K 5033 = (60, 0) from by decide +kernel) (by decide)) rfl rfl (show _ ∧ _ ∧ _ ∧ _ = some 1 from by decide +kernel) (by decide) (by decide) rfl (Nat.le_of_ble_eq_true rfl) hk9 aw_nox) ?_
        replace h := ga_ck_some h; obtain ⟨hc52_0, h⟩ := h
        refine hw_1 (fun k => x_castL (L := [54]) dX34_coupon_52 q3533 sbl_WasteHouse_DepositCodes_Machine (aw_or1 hc52_0) k) ?_
        refine hw_1 (fun k => x_astore_n (ls' := [(2, (2, r49)), (0, (2, 5028)), (1, (0, x1))]) dX34_coupon_55 (by decide) rfl k) ?_
        refine hw_1 (fun k => x_aload_n dX34_coupon_56 rfl k) ?_
        refine hw_1 (fun k => x_getf (v := 5041) dX34_coupon_57 fl_X34_53 (hkS (D := D49) (show ga_K 5028 = (31, 0) from by decide +kernel) (by decide)) (hP49.1 5028 8 5041 (by decide +kernel)) k) ?_
        refine hw_1 (fun k => x_bipush dX34_coupon_60 (by decide) k) ?_
        refine hw_1 (fun k => x_aload_n dX34_coupon_62 rfl k) ?_
        replace h := ga_ck_some h; obtain ⟨hc63_1, h⟩ := h
        refine hw_1 (fun k => x_getf (v := D49 r49 5) dX34_coupon_63 fl_X34_188 hc63_1 rfl k) ?_
        refine hw_1 (fun k => x_imul dX34_coupon_66 rfl k) ?_
        replace h := ga_bind_some h; obtain ⟨r67, D67, g67, h⟩ := h
        have hR67 := (h_J25_valueOf_ok (G := G) hP49 g67)
        obtain ⟨hP67, hE67, -⟩ := id hR67
        refine hw_call (rest := [(2, 5041)]) hR67 (fun hc hk9 => x_callS (as := [(0, aw_w32 (25 * (D49 r49 5)))]) (rest := [(2, 5041)]) dX34_coupon_67 hc (lw_S q4235 q3560 q476 q3561) (show _ ∧ _ ∧ _ = some 1 from by decide +kernel) (by decide) (by decide) rfl (Nat.le_of_ble_eq_true rfl) hk9 aw_nox) ?_
        replace h := ga_bind_some h; obtain ⟨r70, D70, g70, h⟩ := h
        have hR70 := (h_J2_add_ok (G := G) hP67 g70)
        obtain ⟨hP70, hE70, -⟩ := id hR70
        refine hw_call (rest := []) hR70 (fun hc hk9 => x_callV (as := [(2, r67)]) (rest := []) dX34_coupon_70 hc (lw_V q4148 q1941 q1942 q401 q1943) (hkS (D := D67) (show ga_K 5041 = (60, 0) from by decide +kernel) (by decide)) rfl rfl (show _ ∧ _ ∧ _ ∧ _ = some 1 from by decide +kernel) (by decide) (by decide) rfl (Nat.le_of_ble_eq_true rfl) hk9 aw_nox) ?_
        refine hw_1 (fun k => x_pop dX34_coupon_73 rfl k) ?_
        refine hw_1 (fun k => x_aload_n dX34_coupon_74 rfl k) ?_
        refine hw_1 (fun k => x_iconst dX34_coupon_75 (by decide) k) ?_
        replace h := ga_let_some h; obtain ⟨D76, eD76, h⟩ := h
        refine hw_set eD76 (Int.le_trans (by decide) (hkge_54 (h_kx hE70 (h_kx hE67 hc63_1 (by decide)) (by decide)))) (by decide) (fun k => x_putf dX34_coupon_76 fl_X34_188 rfl (h_kx hE70 (h_kx hE67 hc63_1 (by decide)) (by decide)) (hkge_54 (h_kx hE70 (h_kx hE67 hc63_1 (by decide)) (by decide))) trivial k) ?_
        have hP76 : h_P D76 := hP70.set eD76 (hkge_54 (h_kx hE70 (h_kx hE67 hc63_1 (by decide)) (by decide))) (by decide) (hPn (h_kx hE70 (h_kx hE67 hc63_1 (by decide)) (by decide)) rfl)
        have hE76 : h_E D70 D76 := h_E_set eD76 (by decide)
        refine hw_1 (fun k => x_aload_n dX34_coupon_79 rfl k) ?_
        refine hw_1 (fun k => x_getf (v := 5041) dX34_coupon_80 fl_X34_53 (hkS (D := D76) (show ga_K 5028 = (31, 0) from by decide +kernel) (by decide)) (hP76.1 5028 8 5041 (by decide +kernel)) k) ?_
        replace h := ga_bind_some h; obtain ⟨r83, D83, g83, h⟩ := h
        have hR83 := (h_J2_size_ok (G := G) hP76 g83)
        obtain ⟨hP83, hE83, -⟩ := id hR83
        refine hw_call (rest := []) hR83 (fun hc hk9 => x_callV (as := []) (rest := []) dX34_coupon_83 hc (lw_V q3529 q3530 q3531 q401 q3532) (hkS (D := D76) (show ga_K 5041 = (60, 0) from by decide +kernel) (by decide)) rfl rfl (show _ ∧ _ ∧ _ ∧ _ = some 0 from by decide +kernel) (by decide) (by decide) rfl (Nat.le_of_ble_eq_true rfl) hk9 aw_nox) ?_
        refine hw_1 (fun k => x_iconst dX34_coupon_86 (by decide) k) ?_
        refine hw_1 (fun k => x_isub dX34_coupon_87 rfl k) ?_
        obtain ⟨rfl, rfl⟩ := ga_end h
        exact hw_ret hP83 (x_iret dX34_coupon_88 rfl rfl trivial hq)
      · rw [if_neg c39] at h
        refine hw_1 (fun k => x_if_ne (tgt := 44) dX34_coupon_39 (by decide) (fun z => absurd z c39) (fun _ => k)) ?_
        refine hw_1 (fun k => x_iconst dX34_coupon_42 (by decide) k) ?_
        obtain ⟨rfl, rfl⟩ := ga_end h
        exact hw_ret hP30 (x_iret dX34_coupon_43 rfl rfl trivial hq)
theorem h_X34_redeem_ok {G : aw_G} {D D' : ga_D} {r : Int} {x1 x2 : Int} (hP : h_P D) (h : h_X34_redeem x1 x2 D = some (r, D')) : aw_HR yX34_redeem cX34_redeem 3 (some (.boolean)) 6 G [(2, 5028), (0, x1), (0, x2)] D (some (0, r)) D' := by
  unfold h_X34_redeem at h
  refine hw_body (own := "WasteHouse$DepositCodes") (ini := false) (ls := [(0, (2, 5028)), (1, (0, x1)), (2, (0, x2))]) rfl rfl (fun h => by cases h) (Nat.le_of_ble_eq_true rfl) rfl fun Q hq => ?_
  refine hw_1 (fun k => x_iload_n dX34_redeem_0 rfl k) ?_
  by_cases c1 : x1 < 0
  · rw [if_pos c1] at h
    refine hw_1 (fun k => x_if_lt (tgt := 39) dX34_redeem_1 (by decide) (fun _ => k) (fun z => absurd c1 z)) ?_
    refine hw_1 (fun k => x_iconst dX34_redeem_39 (by decide) k) ?_
    obtain ⟨rfl, rfl⟩ := ga_end h
    exact hw_ret hP (x_iret dX34_redeem_40 rfl rfl (show (0 : Int) ≤ 0 ∧ (0 : Int) < 2 from by decide) hq)
  · rw [if_neg c1] at h
    refine hw_1 (fun k => x_if_lt (tgt := 39) dX34_redeem_1 (by decide) (fun z => absurd z c1) (fun _ => k)) ?_
    refine hw_1 (fun k => x_iload_n dX34_redeem_4 rfl k) ?_
    refine hw_1 (fun k => x_aload_n dX34_redeem_5 rfl k) ?_
    refine hw_1 (fun k => x_getf (v := 5041) dX34_redeem_6 fl_X34_53 (hkS (D := D) (show ga_K 5028 = (31, 0) from by decide +kernel) (by decide)) (hP.1 5028 8 5041 (by decide +kernel)) k) ?_
    replace h := ga_bind_some h; obtain ⟨r9, D9, g9, h⟩ := h
    have hR9 := (h_J2_size_ok (G := G) hP g9)
    obtain ⟨hP9, hE9, -⟩ := id hR9
    refine hw_call (rest := [(0, x1)]) hR9 (fun hc hk9 => x_callV (as := []) (rest := [(0, x1)]) dX34_redeem_9 hc (lw_V q3529 q3530 q3531 q401 q3532) (hkS (D := D) (show ga_K 5041 = (60, 0) from by decide +kernel) (by decide)) rfl rfl (show _ ∧ _ ∧ _ ∧ _ = some 0 from by decide +kernel) (by decide) (by decide) rfl (Nat.le_of_ble_eq_true rfl) hk9 aw_nox) ?_
    by_cases c12 : r9 ≤ x1
    · rw [if_pos c12] at h
      refine hw_1 (fun k => x_icmp_ge (tgt := 39) dX34_redeem_12 (by decide) (fun _ => k) (fun z => absurd c12 z)) ?_
      refine hw_1 (fun k => x_iconst dX34_redeem_39 (by decide) k) ?_
      obtain ⟨rfl, rfl⟩ := ga_end h
      exact hw_ret hP9 (x_iret dX34_redeem_40 rfl rfl (show (0 : Int) ≤ 0 ∧ (0 : Int) < 2 from by decide) hq)
    · rw [if_neg c12] at h
      refine hw_1 (fun k => x_icmp_ge (tgt := 39) dX34_redeem_12 (by decide) (fun z => absurd z c12) (fun _ => k)) ?_
      refine hw_1 (fun k => x_iload_n dX34_redeem_15 rfl k) ?_
      by_cases c16 : x2 < 0
      · rw [if_pos c16] at h
        refine hw_1 (fun k => x_if_lt (tgt := 39) dX34_redeem_16 (by decide) (fun _ => k) (fun z => absurd c16 z)) ?_
        refine hw_1 (fun k => x_iconst dX34_redeem_39 (by decide) k) ?_
        obtain ⟨rfl, rfl⟩ := ga_end h
        exact hw_ret hP9 (x_iret dX34_redeem_40 rfl rfl (show (0 : Int) ≤ 0 ∧ (0 : Int) < 2 from by decide) hq)
      · rw [if_neg c16] at h
        refine hw_1 (fun k => x_if_lt (tgt := 39) dX34_redeem_16 (by decide) (fun z => absurd z c16) (fun _ => k)) ?_
        refine hw_1 (fun k => x_iload_n dX34_redeem_19 rfl k) ?_
        refine hw_1 (fun k => x_bipush dX34_redeem_20 (by decide) k) ?_
        by_cases c22 : 100 ≤ x2
        · rw [if_pos c22] at h
          refine hw_1 (fun k => x_icmp_ge (tgt := 39) dX34_redeem_22 (by decide) (fun _ => k) (fun z => absurd c22 z)) ?_
          refine hw_1 (fun k => x_iconst dX34_redeem_39 (by decide) k) ?_
          obtain ⟨rfl, rfl⟩ := ga_end h
          exact hw_ret hP9 (x_iret dX34_redeem_40 rfl rfl (show (0 : Int) ≤ 0 ∧ (0 : Int) < 2 from by decide) hq)
        · rw [if_neg c22] at h
          refine hw_1 (fun k => x_icmp_ge (tgt := 39) dX34_redeem_22 (by decide) (fun z => absurd z c22) (fun _ => k)) ?_
          refine hw_1 (fun k => x_aload_n dX34_redeem_25 rfl k) ?_
          refine hw_1 (fun k => x_getf (v := 5042) dX34_redeem_26 fl_X34_59 (hkS (D := D9) (show ga_K 5028 = (31, 0) from by decide +kernel) (by decide)) (hP9.1 5028 9 5042 (by decide +kernel)) k) ?_
          refine hw_1 (fun k => x_iload_n dX34_redeem_29 rfl k) ?_
          replace h := ga_bind_some h; obtain ⟨r30, D30, g30, h⟩ := h
          have hR30 := (h_J25_valueOf_ok (G := G) hP9 g30)
          obtain ⟨hP30, hE30, -⟩ := id hR30
          refine hw_call (rest := [(2, 5042)]) hR30 (fun hc hk9 => x_callS (as := [(0, x1)]) (rest := [(2, 5042)]) dX34_redeem_30 hc (lw_S q4235 q3560 q476 q3561) (show _ ∧ _ ∧ _ = some 1 from by decide +kernel) (by decide) (by decide) rfl (Nat.le_of_ble_eq_true rfl) hk9 aw_nox) ?_
          replace h := ga_bind_some h; obtain ⟨r33, D33, g33, h⟩ := h
          have hR33 := (h_J9_add_ok (G := G) hP30 g33)
          obtain ⟨hP33, hE33, -⟩ := id hR33
          refine hw_call (rest := []) hR33 (fun hc hk9 => x_callV (as := [(2, r30)]) (rest := []) dX34_redeem_33 hc (lw_V q4752 q3579 q3580 q437 q3581) (hkS (D := D30) (show ga_K 5042 = (63, 0) from by decide +kernel) (by decide)) rfl rfl (show _ ∧ _ ∧ _ ∧ _ = some 1 from by decide +kernel) (by decide) (by decide) rfl (Nat.le_of_ble_eq_true rfl) hk9 aw_nox) ?_
          by_cases c36 : r33 ≠ 0
          · rw [if_pos c36] at h
            refine hw_1 (fun k => x_if_ne (tgt := 41) dX34_redeem_36 (by decide) (fun _ => k) (fun z => absurd c36 z)) ?_
            refine hw_1 (fun k => x_aload_n dX34_redeem_41 rfl k) ?_
            refine hw_1 (fun k => x_getf (v := 5044) dX34_redeem_42 fl_X34_63 (hkS (D := D33) (show ga_K 5028 = (31, 0) from by decide +kernel) (by decide)) (hP33.1 5028 10 5044 (by decide +kernel)) k) ?_
            refine hw_1 (fun k => x_iload_n dX34_redeem_45 rfl k) ?_
            refine hw_1 (fun k => x_dup2 dX34_redeem_46 rfl rfl k) ?_
            replace h := ga_ck_some h; obtain ⟨hc47_0, h⟩ := h
            refine hw_1 (fun k => x_lald (v := D33 5044 x2) dX34_redeem_47 (hkS (D := D33) (show ga_K 5044 = (1001, 100) from by decide +kernel) (by decide)) hc47_0.1 hc47_0.2 rfl k) ?_
            refine hw_1 (fun k => x_aload_n dX34_redeem_48 rfl k) ?_
            refine hw_1 (fun k => x_getf (v := 5041) dX34_redeem_49 fl_X34_53 (hkS (D := D33) (show ga_K 5028 = (31, 0) from by decide +kernel) (by decide)) (hP33.1 5028 8 5041 (by decide +kernel)) k) ?_
            refine hw_1 (fun k => x_iload_n dX34_redeem_52 rfl k) ?_
            replace h := ga_bind_some h; obtain ⟨r53, D53, g53, h⟩ := h
            have hR53 := (h_J2_get_ok (G := G) hP33 g53)
            obtain ⟨hP53, hE53, -⟩ := id hR53
            refine hw_call (rest := [(1, D33 5044 x2), (0, x2), (2, 5044)]) hR53 (fun hc hk9 => x_callV (as := [(0, x1)]) (rest := [(1, D33 5044 x2), (0, x2), (2, 5044)]) dX34_redeem_53 hc (lw_V q4174 q3183 q3184 q401 q3185) (hkS (D := D33) (show ga_K 5041 = (60, 0) from by decide +kernel) (by decide)) rfl rfl (show _ ∧ _ ∧ _ ∧ _ = some 1 from by decide +kernel) (by decide) (by decide) rfl (Nat.le_of_ble_eq_true rfl) hk9 aw_nox) ?_
            replace h := ga_ck_some h; obtain ⟨hc56_1, h⟩ := h
            refine hw_1 (fun k => x_castL (L := [70]) dX34_redeem_56 q4327 sbl_java_lang_Integer (aw_or1 hc56_1) k) ?_
            replace h := ga_ck_some h; obtain ⟨hc59_2, h⟩ := h
            replace h := ga_bind_some h; obtain ⟨r59, D59, g59, h⟩ := h
            have hR59 := (h_J25_intValue_ok (G := G) hP53 g59)
            obtain ⟨hP59, hE59, -⟩ := id hR59
            refine hw_call (rest := [(1, D33 5044 x2), (0, x2), (2, 5044)]) hR59 (fun hc hk9 => x_callV (as := []) (rest := [(1, D33 5044 x2), (0, x2), (2, 5044)]) dX34_redeem_59 hc (lw_V q4328 q3152 q3153 q476 q3154) hc59_2 rfl rfl (show _ ∧ _ ∧ _ ∧ _ = some 0 from by decide +kernel) (by decide) (by decide) rfl (Nat.le_of_ble_eq_true rfl) hk9 aw_nox) ?_
            refine hw_1 (fun k => x_i2l dX34_redeem_62 rfl k) ?_
            refine hw_1 (fun k => x_ladd dX34_redeem_63 rfl k) ?_
            replace h := ga_ck_some h; obtain ⟨hc64_3, h⟩ := h
            replace h := ga_let_some h; obtain ⟨D64, eD64, h⟩ := h
            refine hw_set eD64 (by decide) hc64_3.1 (fun k => x_last dX34_redeem_64 (hkS (D := D59) (show ga_K 5044 = (1001, 100) from by decide +kernel) (by decide)) (by decide) hc64_3.1 hc64_3.2 k) ?_
            have hP64 : h_P D64 := hP59.set eD64 (by decide) hc64_3.1 (hPn (hkS (D := D59) (show ga_K 5044 = (1001, 100) from by decide +kernel) (by decide)) rfl)
            have hE64 : h_E D59 D64 := h_E_set eD64 hc64_3.1
            refine hw_1 (fun k => x_iconst dX34_redeem_65 (by decide) k) ?_
            obtain ⟨rfl, rfl⟩ := ga_end h
            exact hw_ret hP64 (x_iret dX34_redeem_66 rfl rfl (show (0 : Int) ≤ 1 ∧ (1 : Int) < 2 from by decide) hq)
          · rw [if_neg c36] at h
            refine hw_1 (fun k => x_if_ne (tgt := 41) dX34_redeem_36 (by decide) (fun z => absurd z c36) (fun _ => k)) ?_
            refine hw_1 (fun k => x_iconst dX34_redeem_39 (by decide) k) ?_
            obtain ⟨rfl, rfl⟩ := ga_end h
            exact hw_ret hP33 (x_iret dX34_redeem_40 rfl rfl (show (0 : Int) ≤ 0 ∧ (0 : Int) < 2 from by decide) hq)
theorem h_X34_shop_ok {G : aw_G} {D D' : ga_D} {r : Int} {x1 : Int} (hP : h_P D) (h : h_X34_shop x1 D = some (r, D')) : aw_HR yX34_shop cX34_shop 2 (some (.long)) 0 G [(2, 5028), (0, x1)] D (some (1, r)) D' := by
  unfold h_X34_shop at h
  refine hw_body (own := "WasteHouse$DepositCodes") (ini := false) (ls := [(0, (2, 5028)), (1, (0, x1))]) rfl rfl (fun h => by cases h) (Nat.le_of_ble_eq_true rfl) rfl fun Q hq => ?_
  refine hw_1 (fun k => x_iload_n dX34_shop_0 rfl k) ?_
  by_cases c1 : x1 < 0
  · rw [if_pos c1] at h
    refine hw_1 (fun k => x_if_lt (tgt := 10) dX34_shop_1 (by decide) (fun _ => k) (fun z => absurd c1 z)) ?_
    refine hw_1 (fun k => x_ldc2 (z := (-1)) dX34_shop_10 q4370 (by decide) k) ?_
    refine hw_1 (fun k => x_goto (tgt := 22) dX34_shop_13 (by decide) k) ?_
    obtain ⟨rfl, rfl⟩ := ga_end h
    exact hw_ret hP (x_lret dX34_shop_22 rfl hq)
  · rw [if_neg c1] at h
    refine hw_1 (fun k => x_if_lt (tgt := 10) dX34_shop_1 (by decide) (fun z => absurd z c1) (fun _ => k)) ?_
    refine hw_1 (fun k => x_iload_n dX34_shop_4 rfl k) ?_
    refine hw_1 (fun k => x_bipush dX34_shop_5 (by decide) k) ?_
    by_cases c7 : x1 < 100
    · rw [if_pos c7] at h
      refine hw_1 (fun k => x_icmp_lt (tgt := 16) dX34_shop_7 (by decide) (fun _ => k) (fun z => absurd c7 z)) ?_
      refine hw_1 (fun k => x_aload_n dX34_shop_16 rfl k) ?_
      refine hw_1 (fun k => x_getf (v := 5044) dX34_shop_17 fl_X34_63 (hkS (D := D) (show ga_K 5028 = (31, 0) from by decide +kernel) (by decide)) (hP.1 5028 10 5044 (by decide +kernel)) k) ?_
      refine hw_1 (fun k => x_iload_n dX34_shop_20 rfl k) ?_
      replace h := ga_ck_some h; obtain ⟨hc21_0, h⟩ := h
      refine hw_1 (fun k => x_lald (v := D 5044 x1) dX34_shop_21 (hkS (D := D) (show ga_K 5044 = (1001, 100) from by decide +kernel) (by decide)) hc21_0.1 hc21_0.2 rfl k) ?_
      obtain ⟨rfl, rfl⟩ := ga_end h
      exact hw_ret hP (x_lret dX34_shop_22 rfl hq)
    · rw [if_neg c7] at h
      refine hw_1 (fun k => x_icmp_lt (tgt := 16) dX34_shop_7 (by decide) (fun z => absurd z c7) (fun _ => k)) ?_
      refine hw_1 (fun k => x_ldc2 (z := (-1)) dX34_shop_10 q4370 (by decide) k) ?_
      refine hw_1 (fun k => x_goto (tgt := 22) dX34_shop_13 (by decide) k) ?_
      obtain ⟨rfl, rfl⟩ := ga_end h
      exact hw_ret hP (x_lret dX34_shop_22 rfl hq)
theorem h_X34_clear_j57_ok {G : aw_G} {M0 : aw_M} {D' : ga_D} {Q : Option aw_V → aw_M → Prop} {r : Int} (hq : Q (some (0, r)) (hM D')) {k33 : Int → Int → Int → ga_D → ga_S} (hk33 : ∀ (x2 x3 x4 : Int) (D : ga_D), h_P D → k33 x2 x3 x4 D = some (r, D') → aw_HW G "WasteHouse$DepositCodes" cX34_clear (some (.int)) 5 5 false M0 Q aw_no D' (hn D') (hsl D') 33 [(0, (2, 5028)), (2, (2, x2)), (3, (0, x3)), (4, (0, x4))] [] D) {x2 x3 x4 s0 s1 s2 : Int} {D : ga_D} (hP : h_P D) (h : h_X34_clear_j57 x2 x3 x4 s0 s1 s2 D k33 = some (r, D')) : aw_HW G "WasteHouse$DepositCodes" cX34_clear (some (.int)) 5 5 false M0 Q aw_no D' (hn D') (hsl D') 57 [(0, (2, 5028)), (2, (2, x2)), (3, (0, x3)), (4, (0, x4))] [(1, s0), (0, s1), (2, s2)] D := by
  unfold h_X34_clear_j57 at h
  replace h := ga_ck_some h; obtain ⟨hc57_0, h⟩ := h
  replace h := ga_ck_some h; obtain ⟨hc57_1, h⟩ := h
  replace h := ga_ck_some h; obtain ⟨hc57_2, h⟩ := h
  replace h := ga_let_some h; obtain ⟨D57, eD57, h⟩ := h
  refine hw_set eD57 (Int.le_trans (by decide) hc57_1) hc57_2.1 (fun k => x_last dX34_clear_57 (hk_p hc57_0) hc57_1 hc57_2.1 hc57_2.2 k) ?_
  have hP57 : h_P D57 := hP.set eD57 hc57_1 hc57_2.1 (hPn (hk_p hc57_0) rfl)
  have hE57 : h_E D D57 := h_E_set eD57 hc57_2.1
  refine hw_1 (fun k => x_iload_n dX34_clear_58 rfl k) ?_
  refine hw_1 (fun k => x_aload_n dX34_clear_59 rfl k) ?_
  refine hw_1 (fun k => x_getf (v := 5040) dX34_clear_60 fl_X34_49 (hkS (D := D57) (show ga_K 5028 = (31, 0) from by decide +kernel) (by decide)) (hP57.1 5028 7 5040 (by decide +kernel)) k) ?_
  refine hw_1 (fun k => x_iload dX34_clear_63 rfl k) ?_
  replace h := ga_ck_some h; obtain ⟨hc65_3, h⟩ := h
  refine hw_1 (fun k => x_lald (v := D57 5040 x4) dX34_clear_65 (hkS (D := D57) (show ga_K 5040 = (1001, 3) from by decide +kernel) (by decide)) hc65_3.1 hc65_3.2 rfl k) ?_
  refine hw_1 (fun k => x_lconst (v := 0) dX34_clear_66 rfl k) ?_
  refine hw_1 (fun k => x_lcmp dX34_clear_67 rfl k) ?_
  by_cases c68 : D57 5040 x4 = 0
  · rw [if_pos c68] at h
    refine hw_1 (fun k => x_if_eq (tgt := 75) dX34_clear_68 (by decide) (fun _ => k) (fun z => absurd (cmi_eq.mpr c68) z)) ?_
    refine hw_1 (fun k => x_iconst dX34_clear_75 (by decide) k) ?_
    refine hw_1 (fun k => x_iadd dX34_clear_76 rfl k) ?_
    replace h := ga_let_some h; obtain ⟨v77, ev77, h⟩ := h
    refine hw_nm ev77 ?_
    refine hw_1 (fun k => x_istore_n (ls' := [(3, (0, v77)), (0, (2, 5028)), (2, (2, x2)), (4, (0, x4))]) dX34_clear_77 (by decide) rfl k) ?_
    replace h := ga_let_some h; obtain ⟨v78, ev78, h⟩ := h
    refine hw_1 (fun k => x_iinc (ls' := [(4, (0, v78)), (3, (0, v77)), (0, (2, 5028)), (2, (2, x2))]) dX34_clear_78 rfl ev78.symm (by decide) rfl k) ?_
    refine hw_1 (fun k => x_goto (tgt := 33) dX34_clear_81 (by decide) k) ?_
    refine hw_locs [2, 3, 1, 0] (ls' := [(0, (2, 5028)), (2, (2, x2)), (3, (0, v77)), (4, (0, v78))]) rfl ?_
    exact hk33 _ _ _ _ hP57 h
  · rw [if_neg c68] at h
    refine hw_1 (fun k => x_if_eq (tgt := 75) dX34_clear_68 (by decide) (fun z => absurd (cmi_eq.mp z) c68) (fun _ => k)) ?_
    refine hw_1 (fun k => x_iconst dX34_clear_71 (by decide) k) ?_
    refine hw_1 (fun k => x_goto (tgt := 76) dX34_clear_72 (by decide) k) ?_
    refine hw_1 (fun k => x_iadd dX34_clear_76 rfl k) ?_
    replace h := ga_let_some h; obtain ⟨v77, ev77, h⟩ := h
    refine hw_nm ev77 ?_
    refine hw_1 (fun k => x_istore_n (ls' := [(3, (0, v77)), (0, (2, 5028)), (2, (2, x2)), (4, (0, x4))]) dX34_clear_77 (by decide) rfl k) ?_
    replace h := ga_let_some h; obtain ⟨v78, ev78, h⟩ := h
    refine hw_1 (fun k => x_iinc (ls' := [(4, (0, v78)), (3, (0, v77)), (0, (2, 5028)), (2, (2, x2))]) dX34_clear_78 rfl ev78.symm (by decide) rfl k) ?_
    refine hw_1 (fun k => x_goto (tgt := 33) dX34_clear_81 (by decide) k) ?_
    refine hw_locs [2, 3, 1, 0] (ls' := [(0, (2, 5028)), (2, (2, x2)), (3, (0, v77)), (4, (0, v78))]) rfl ?_
    exact hk33 _ _ _ _ hP57 h
theorem h_X34_clear_l33_ok {G : aw_G} {M0 : aw_M} {D' : ga_D} {Q : Option aw_V → aw_M → Prop} {r : Int} (hq : Q (some (0, r)) (hM D')) {k84 : Int → ga_D → ga_S} (hk84 : ∀ (x3 : Int) (D : ga_D), h_P D → k84 x3 D = some (r, D') → aw_HW G "WasteHouse$DepositCodes" cX34_clear (some (.int)) 5 5 false M0 Q aw_no D' (hn D') (hsl D') 84 [(3, (0, x3))] [] D) : ∀ {n : Nat} {x2 x3 x4 : Int} {D : ga_D}, h_P D → h_X34_clear_l33 n x2 x3 x4 D k84 = some (r, D') → aw_HW G "WasteHouse$DepositCodes" cX34_clear (some (.int)) 5 5 false M0 Q aw_no D' (hn D') (hsl D') 33 [(0, (2, 5028)), (2, (2, x2)), (3, (0, x3)), (4, (0, x4))] [] D := by
  intro n
  induction n with
  | zero => intro x2 x3 x4 D hP h; exact absurd (h : (none : ga_S) = some (r, D')) (by intro h; cases h)
  | succ n ih =>
    intro x2 x3 x4 D hP h
    have ih : ∀ (x2 x3 x4 : Int) (D : ga_D), h_P D → h_X34_clear_l33 n x2 x3 x4 D k84 = some (r, D') → aw_HW G "WasteHouse$DepositCodes" cX34_clear (some (.int)) 5 5 false M0 Q aw_no D' (hn D') (hsl D') 33 [(0, (2, 5028)), (2, (2, x2)), (3, (0, x3)), (4, (0, x4))] [] D := fun x2 x3 x4 D hP h => ih hP h
    replace h : (if 3 ≤ x4 then (k84 x3 D) else (if x2 ≠ 0 then (ga_ck ((hk D x2).1 = 1001) (ga_ck (0 ≤ x4 ∧ x4 < (hk D x2).2) (h_X34_clear_j57 x2 x3 x4 (D x2 x4) x4 5040 D (fun x2 x3 x4 D33 => h_X34_clear_l33 n x2 x3 x4 D33 k84)))) else (h_X34_clear_j57 x2 x3 x4 0 x4 5040 D (fun x2 x3 x4 D33 => h_X34_clear_l33 n x2 x3 x4 D33 k84))) : ga_S) = some (r, D') := h
    refine hw_1 (fun k => x_iload dX34_clear_33 rfl k) ?_
    refine hw_1 (fun k => x_iconst dX34_clear_35 (by decide) k) ?_
    by_cases c36 : 3 ≤ x4
    · rw [if_pos c36] at h
      refine hw_1 (fun k => x_icmp_ge (tgt := 84) dX34_clear_36 (by decide) (fun _ => k) (fun z => absurd c36 z)) ?_
      refine hw_locs [2] (ls' := [(3, (0, x3))]) rfl ?_
      exact hk84 _ _ hP h
    · rw [if_neg c36] at h
      refine hw_1 (fun k => x_icmp_ge (tgt := 84) dX34_clear_36 (by decide) (fun z => absurd z c36) (fun _ => k)) ?_
      refine hw_1 (fun k => x_aload_n dX34_clear_39 rfl k) ?_
      refine hw_1 (fun k => x_getf (v := 5040) dX34_clear_40 fl_X34_49 (hkS (D := D) (show ga_K 5028 = (31, 0) from by decide +kernel) (by decide)) (hP.1 5028 7 5040 (by decide +kernel)) k) ?_
      refine hw_1 (fun k => x_iload dX34_clear_43 rfl k) ?_
      refine hw_1 (fun k => x_aload_n dX34_clear_45 rfl k) ?_
      by_cases c46 : x2 ≠ 0
      · rw [if_pos c46] at h
        refine hw_1 (fun k => x_ifnonnull (tgt := 53) dX34_clear_46 (by decide) (fun _ => k) (fun z => absurd c46 z)) ?_
        refine hw_1 (fun k => x_aload_n dX34_clear_53 rfl k) ?_
        refine hw_1 (fun k => x_iload dX34_clear_54 rfl k) ?_
        replace h := ga_ck_some h; obtain ⟨hc56_0, h⟩ := h
        replace h := ga_ck_some h; obtain ⟨hc56_1, h⟩ := h
        refine hw_1 (fun k => x_lald (v := D x2 x4) dX34_clear_56 (hk_p hc56_0) hc56_1.1 hc56_1.2 rfl k) ?_
        refine h_X34_clear_j57_ok hq (fun x2 x3 x4 D33 hP h => ?_) hP h
        · exact ih _ _ _ _ hP h
      · rw [if_neg c46] at h
        refine hw_1 (fun k => x_ifnonnull (tgt := 53) dX34_clear_46 (by decide) (fun z => absurd z c46) (fun _ => k)) ?_
        refine hw_1 (fun k => x_lconst (v := 0) dX34_clear_49 rfl k) ?_
        refine hw_1 (fun k => x_goto (tgt := 57) dX34_clear_50 (by decide) k) ?_
        refine h_X34_clear_j57_ok hq (fun x2 x3 x4 D33 hP h => ?_) hP h
        · exact ih _ _ _ _ hP h
theorem h_X34_clear_ok {G : aw_G} {D D' : ga_D} {r : Int} {x1 : Int} (hP : h_P D) (h : h_X34_clear x1 D = some (r, D')) : aw_HR yX34_clear cX34_clear 5 (some (.int)) 5 G [(2, 5028), (0, x1)] D (some (0, r)) D' := by
  unfold h_X34_clear at h
  refine hw_body (own := "WasteHouse$DepositCodes") (ini := false) (ls := [(0, (2, 5028)), (1, (0, x1))]) rfl rfl (fun h => by cases h) (Nat.le_of_ble_eq_true rfl) rfl fun Q hq => ?_
  refine hw_1 (fun k => x_iload_n dX34_clear_0 rfl k) ?_
  by_cases c1 : x1 < 0
  · rw [if_pos c1] at h
    refine hw_1 (fun k => x_if_lt (tgt := 11) dX34_clear_1 (by decide) (fun _ => k) (fun z => absurd c1 z)) ?_
    refine hw_1 (fun k => x_iconst dX34_clear_11 (by decide) k) ?_
    obtain ⟨rfl, rfl⟩ := ga_end h
    exact hw_ret hP (x_iret dX34_clear_12 rfl rfl trivial hq)
  · rw [if_neg c1] at h
    refine hw_1 (fun k => x_if_lt (tgt := 11) dX34_clear_1 (by decide) (fun z => absurd z c1) (fun _ => k)) ?_
    refine hw_1 (fun k => x_iload_n dX34_clear_4 rfl k) ?_
    refine hw_1 (fun k => x_ldcw (z := 40000) dX34_clear_5 q4761 (by decide) k) ?_
    by_cases c8 : x1 ≤ 40000
    · rw [if_pos c8] at h
      refine hw_1 (fun k => x_icmp_le (tgt := 13) dX34_clear_8 (by decide) (fun _ => k) (fun z => absurd c8 z)) ?_
      refine hw_1 (fun k => x_aload_n dX34_clear_13 rfl k) ?_
      refine hw_1 (fun k => x_getf (v := 5039) dX34_clear_14 fl_X34_46 (hkS (D := D) (show ga_K 5028 = (31, 0) from by decide +kernel) (by decide)) (hP.1 5028 6 5039 (by decide +kernel)) k) ?_
      refine hw_1 (fun k => x_iload_n dX34_clear_17 rfl k) ?_
      replace h := ga_bind_some h; obtain ⟨r18, D18, g18, h⟩ := h
      have hR18 := (h_J25_valueOf_ok (G := G) hP g18)
      obtain ⟨hP18, hE18, -⟩ := id hR18
      refine hw_call (rest := [(2, 5039)]) hR18 (fun hc hk9 => x_callS (as := [(0, x1)]) (rest := [(2, 5039)]) dX34_clear_18 hc (lw_S q4235 q3560 q476 q3561) (show _ ∧ _ ∧ _ = some 1 from by decide +kernel) (by decide) (by decide) rfl (Nat.le_of_ble_eq_true rfl) hk9 aw_nox) ?_
      replace h := ga_bind_some h; obtain ⟨r21, D21, g21, h⟩ := h
      have hR21 := (h_J4_get_ok (G := G) hP18 g21)
      obtain ⟨hP21, hE21, -⟩ := id hR21
      refine hw_call (rest := []) hR21 (fun hc hk9 => x_callV (as := [(2, r18)]) (rest := []) dX34_clear_21 hc (lw_V q4314 q4315 q4316 q403 q4317) (hkS (D := D18) (show ga_K 5039 = (61, 0) from by decide +kernel) (by decide)) rfl rfl (show _ ∧ _ ∧ _ ∧ _ = some 1 from by decide +kernel) (by decide) (by decide) rfl (Nat.le_of_ble_eq_true rfl) hk9 aw_nox) ?_
      replace h := ga_ck_some h; obtain ⟨hc24_0, h⟩ := h
      refine hw_1 (fun k => x_castA (t := 1) dX34_clear_24 q4318 rfl rfl (hc24_0.imp id hk_p) k) ?_
      refine hw_1 (fun k => x_astore_n (ls' := [(2, (2, r21)), (0, (2, 5028)), (1, (0, x1))]) dX34_clear_27 (by decide) rfl k) ?_
      refine hw_1 (fun k => x_iconst dX34_clear_28 (by decide) k) ?_
      refine hw_1 (fun k => x_istore_n (ls' := [(3, (0, 0)), (2, (2, r21)), (0, (2, 5028)), (1, (0, x1))]) dX34_clear_29 (by decide) rfl k) ?_
      refine hw_1 (fun k => x_iconst dX34_clear_30 (by decide) k) ?_
      refine hw_1 (fun k => x_istore (ls' := [(4, (0, 0)), (3, (0, 0)), (2, (2, r21)), (0, (2, 5028)), (1, (0, x1))]) dX34_clear_31 (by decide) rfl k) ?_
      refine hw_locs [3, 2, 1, 0] (ls' := [(0, (2, 5028)), (2, (2, r21)), (3, (0, 0)), (4, (0, 0))]) rfl ?_
      refine h_X34_clear_l33_ok hq (fun x3 D84 hP h => ?_) hP21 h
      · refine hw_1 (fun k => x_iload_n dX34_clear_84 rfl k) ?_
        obtain ⟨rfl, rfl⟩ := ga_end h
        exact hw_ret hP (x_iret dX34_clear_85 rfl rfl trivial hq)
    · rw [if_neg c8] at h
      refine hw_1 (fun k => x_icmp_le (tgt := 13) dX34_clear_8 (by decide) (fun z => absurd z c8) (fun _ => k)) ?_
      refine hw_1 (fun k => x_iconst dX34_clear_11 (by decide) k) ?_
      obtain ⟨rfl, rfl⟩ := ga_end h
      exact hw_ret hP (x_iret dX34_clear_12 rfl rfl trivial hq)
theorem h_X34_cleared_ok {G : aw_G} {D D' : ga_D} {r : Int} {x1 : Int} (hP : h_P D) (h : h_X34_cleared x1 D = some (r, D')) : aw_HR yX34_cleared cX34_cleared 2 (some (.long)) 0 G [(2, 5028), (0, x1)] D (some (1, r)) D' := by
  unfold h_X34_cleared at h
  refine hw_body (own := "WasteHouse$DepositCodes") (ini := false) (ls := [(0, (2, 5028)), (1, (0, x1))]) rfl rfl (fun h => by cases h) (Nat.le_of_ble_eq_true rfl) rfl fun Q hq => ?_
  refine hw_1 (fun k => x_iload_n dX34_cleared_0 rfl k) ?_
  by_cases c1 : x1 < 0
  · rw [if_pos c1] at h
    refine hw_1 (fun k => x_if_lt (tgt := 9) dX34_cleared_1 (by decide) (fun _ => k) (fun z => absurd c1 z)) ?_
    refine hw_1 (fun k => x_lconst (v := 0) dX34_cleared_9 rfl k) ?_
    refine hw_1 (fun k => x_goto (tgt := 19) dX34_cleared_10 (by decide) k) ?_
    obtain ⟨rfl, rfl⟩ := ga_end h
    exact hw_ret hP (x_lret dX34_cleared_19 rfl hq)
  · rw [if_neg c1] at h
    refine hw_1 (fun k => x_if_lt (tgt := 9) dX34_cleared_1 (by decide) (fun z => absurd z c1) (fun _ => k)) ?_
    refine hw_1 (fun k => x_iload_n dX34_cleared_4 rfl k) ?_
    refine hw_1 (fun k => x_iconst dX34_cleared_5 (by decide) k) ?_
    by_cases c6 : x1 < 3
    · rw [if_pos c6] at h
      refine hw_1 (fun k => x_icmp_lt (tgt := 13) dX34_cleared_6 (by decide) (fun _ => k) (fun z => absurd c6 z)) ?_
      refine hw_1 (fun k => x_aload_n dX34_cleared_13 rfl k) ?_
      refine hw_1 (fun k => x_getf (v := 5040) dX34_cleared_14 fl_X34_49 (hkS (D := D) (show ga_K 5028 = (31, 0) from by decide +kernel) (by decide)) (hP.1 5028 7 5040 (by decide +kernel)) k) ?_
      refine hw_1 (fun k => x_iload_n dX34_cleared_17 rfl k) ?_
      replace h := ga_ck_some h; obtain ⟨hc18_0, h⟩ := h
      refine hw_1 (fun k => x_lald (v := D 5040 x1) dX34_cleared_18 (hkS (D := D) (show ga_K 5040 = (1001, 3) from by decide +kernel) (by decide)) hc18_0.1 hc18_0.2 rfl k) ?_
      obtain ⟨rfl, rfl⟩ := ga_end h
      exact hw_ret hP (x_lret dX34_cleared_19 rfl hq)
    · rw [if_neg c6] at h
      refine hw_1 (fun k => x_icmp_lt (tgt := 13) dX34_cleared_6 (by decide) (fun z => absurd z c6) (fun _ => k)) ?_
      refine hw_1 (fun k => x_lconst (v := 0) dX34_cleared_9 rfl k) ?_
      refine hw_1 (fun k => x_goto (tgt := 19) dX34_cleared_10 (by decide) k) ?_
      obtain ⟨rfl, rfl⟩ := ga_end h
      exact hw_ret hP (x_lret dX34_cleared_19 rfl hq)
theorem h_X34_fraud_l10_ok {G : aw_G} {M0 : aw_M} {D' : ga_D} {Q : Option aw_V → aw_M → Prop} {r : Int} (hq : Q (some (0, r)) (hM D')) {k40 : Int → ga_D → ga_S} {k46 : ga_D → ga_S} (hk40 : ∀ (x4 : Int) (D : ga_D), h_P D → k40 x4 D = some (r, D') → aw_HW G "WasteHouse$DepositCodes" cX34_fraud (some (.int)) 5 4 false M0 Q aw_no D' (hn D') (hsl D') 40 [(4, (0, x4))] [] D) (hk46 : ∀ (D : ga_D), h_P D → k46 D = some (r, D') → aw_HW G "WasteHouse$DepositCodes" cX34_fraud (some (.int)) 5 4 false M0 Q aw_no D' (hn D') (hsl D') 46 [] [] D) : ∀ {n : Nat} {x2 x3 : Int} {D : ga_D}, h_P D → h_X34_fraud_l10 n x2 x3 D k40 k46 = some (r, D') → aw_HW G "WasteHouse$DepositCodes" cX34_fraud (some (.int)) 5 4 false M0 Q aw_no D' (hn D') (hsl D') 10 [(2, (0, x2)), (3, (2, x3))] [] D := by
  intro n
  induction n with
  | zero => intro x2 x3 D hP h; exact absurd (h : (none : ga_S) = some (r, D')) (by intro h; cases h)
  | succ n ih =>
    intro x2 x3 D hP h
    have ih : ∀ (x2 x3 : Int) (D : ga_D), h_P D → h_X34_fraud_l10 n x2 x3 D k40 k46 = some (r, D') → aw_HW G "WasteHouse$DepositCodes" cX34_fraud (some (.int)) 5 4 false M0 Q aw_no D' (hn D') (hsl D') 10 [(2, (0, x2)), (3, (2, x3))] [] D := fun x2 x3 D hP h => ih hP h
    replace h : (ga_bind (if hk D x3 = (71, 0) then (h_J26_hasNext x3 D) else if hk D x3 = (78, 0) then (h_J37_hasNext x3 D) else if hk D x3 = (80, 0) then (h_J40_hasNext x3 D) else if hk D x3 = (82, 0) then (h_J43_hasNext x3 D) else none) (fun r11 D11 => if r11 = 0 then (k46 D11) else (ga_bind (if hk D11 x3 = (71, 0) then (h_J26_next x3 D11) else if hk D11 x3 = (78, 0) then (h_J38_next x3 D11) else if hk D11 x3 = (80, 0) then (h_J41_next x3 D11) else if hk D11 x3 = (82, 0) then (h_J43_next x3 D11) else none) (fun r20 D20 => ga_ck (r20 = 0 ∨ hk D20 r20 = (70, 0)) (ga_ck (hk D20 r20 = (70, 0)) (ga_bind (h_J25_intValue r20 D20) (fun r28 D28 => ga_let (aw_w32 (x2 + (-1))) (fun v34 => if x2 ≠ 0 then (h_X34_fraud_l10 n v34 x3 D28 k40 k46) else (k40 r28 D28)))))))) : ga_S) = some (r, D') := h
    refine hw_1 (fun k => x_aload_n dX34_fraud_10 rfl k) ?_
    replace h := ga_bind_some h; obtain ⟨r11, D11, g11, h⟩ := h
    have hS11 : h_P D11 ∧ h_E D D11 ∧ ∃ mc ms : Nat, hn D + mc = hn D11 ∧ hsl D + ms = hsl D11 ∧ ∀ {c sl : Nat}, aw_W G "WasteHouse$DepositCodes" cX34_fraud (some (.int)) 5 4 false M0 Q aw_no c sl 16 [(2, (0, x2)), (3, (2, x3))] [(0, r11)] (hM D11) → aw_W G "WasteHouse$DepositCodes" cX34_fraud (some (.int)) 5 4 false M0 Q aw_no (c + mc) (sl + ms) 11 [(2, (0, x2)), (3, (2, x3))] [(2, x3)] (hM D) := by
      by_cases w11_71 : hk D x3 = (71, 0)
      · rw [if_pos w11_71] at g11
        have hR := (h_J26_hasNext_ok (G := G) hP g11)
        exact hw_callM (rest := []) hR (fun hc hk9 => x_callF (C := "java/util/ArrayList$Itr") (as := []) (rest := []) dX34_fraud_11 hc q2979 q4479 (by decide +kernel) q2975 q2977 q477 q2978 q2976 q2974 w11_71 rfl rfl (show _ = some 0 from by decide +kernel) (by decide) (by decide) rfl (Nat.le_of_ble_eq_true rfl) hk9 aw_nox)
      rw [if_neg w11_71] at g11
      by_cases w11_78 : hk D x3 = (78, 0)
      · rw [if_pos w11_78] at g11
        have hR := (h_J37_hasNext_ok (G := G) hP g11)
        exact hw_callM (rest := []) hR (fun hc hk9 => x_callF (C := "java/util/HashMap$KeyIterator") (as := []) (rest := []) dX34_fraud_11 hc q2985 q4479 (by decide +kernel) q2981 q2983 q495 q2984 q2982 q2980 w11_78 rfl rfl (show _ = some 0 from by decide +kernel) (by decide) (by decide) rfl (Nat.le_of_ble_eq_true rfl) hk9 aw_nox)
      rw [if_neg w11_78] at g11
      by_cases w11_80 : hk D x3 = (80, 0)
      · rw [if_pos w11_80] at g11
        have hR := (h_J40_hasNext_ok (G := G) hP g11)
        exact hw_callM (rest := []) hR (fun hc hk9 => x_callF (C := "java/util/TreeMap$EntryIterator") (as := []) (rest := []) dX34_fraud_11 hc q2991 q4479 (by decide +kernel) q2987 q2989 q498 q2990 q2988 q2986 w11_80 rfl rfl (show _ = some 0 from by decide +kernel) (by decide) (by decide) rfl (Nat.le_of_ble_eq_true rfl) hk9 aw_nox)
      rw [if_neg w11_80] at g11
      by_cases w11_82 : hk D x3 = (82, 0)
      · rw [if_pos w11_82] at g11
        have hR := (h_J43_hasNext_ok (G := G) hP g11)
        exact hw_callM (rest := []) hR (fun hc hk9 => x_callF (C := "java/util/ArrayDeque$DeqIterator") (as := []) (rest := []) dX34_fraud_11 hc q2973 q4479 (by decide +kernel) q2969 q2971 q502 q2972 q2970 q2968 w11_82 rfl rfl (show _ = some 0 from by decide +kernel) (by decide) (by decide) rfl (Nat.le_of_ble_eq_true rfl) hk9 aw_nox)
      rw [if_neg w11_82] at g11
      exact absurd g11 (by intro h; cases h)
    obtain ⟨hP11, hE11, hS11⟩ := hS11
    refine hw_go ⟨hE11, hS11⟩ ?_
    by_cases c16 : r11 = 0
    · rw [if_pos c16] at h
      refine hw_1 (fun k => x_if_eq (tgt := 46) dX34_fraud_16 (by decide) (fun _ => k) (fun z => absurd c16 z)) ?_
      refine hw_locs [] (ls' := []) rfl ?_
      exact hk46 _ hP11 h
    · rw [if_neg c16] at h
      refine hw_1 (fun k => x_if_eq (tgt := 46) dX34_fraud_16 (by decide) (fun z => absurd z c16) (fun _ => k)) ?_
      refine hw_1 (fun k => x_aload_n dX34_fraud_19 rfl k) ?_
      replace h := ga_bind_some h; obtain ⟨r20, D20, g20, h⟩ := h
      have hS20 : h_P D20 ∧ h_E D11 D20 ∧ ∃ mc ms : Nat, hn D11 + mc = hn D20 ∧ hsl D11 + ms = hsl D20 ∧ ∀ {c sl : Nat}, aw_W G "WasteHouse$DepositCodes" cX34_fraud (some (.int)) 5 4 false M0 Q aw_no c sl 25 [(2, (0, x2)), (3, (2, x3))] [(2, r20)] (hM D20) → aw_W G "WasteHouse$DepositCodes" cX34_fraud (some (.int)) 5 4 false M0 Q aw_no (c + mc) (sl + ms) 20 [(2, (0, x2)), (3, (2, x3))] [(2, x3)] (hM D11) := by
        by_cases w20_71 : hk D11 x3 = (71, 0)
        · rw [if_pos w20_71] at g20
          have hR := (h_J26_next_ok (G := G) hP11 g20)
          exact hw_callM (rest := []) hR (fun hc hk9 => x_callF (C := "java/util/ArrayList$Itr") (as := []) (rest := []) dX34_fraud_20 hc q3011 q4481 (by decide +kernel) q3007 q3009 q477 q3010 q3008 q2974 w20_71 rfl rfl (show _ = some 0 from by decide +kernel) (by decide) (by decide) rfl (Nat.le_of_ble_eq_true rfl) hk9 aw_nox)
        rw [if_neg w20_71] at g20
        by_cases w20_78 : hk D11 x3 = (78, 0)
        · rw [if_pos w20_78] at g20
          have hR := (h_J38_next_ok (G := G) hP11 g20)
          exact hw_callM (rest := []) hR (fun hc hk9 => x_callF (C := "java/util/HashMap$KeyIterator") (as := []) (rest := []) dX34_fraud_20 hc q3020 q4481 (by decide +kernel) q3016 q3018 q496 q3019 q3017 q2980 w20_78 rfl rfl (show _ = some 0 from by decide +kernel) (by decide) (by decide) rfl (Nat.le_of_ble_eq_true rfl) hk9 aw_nox)
        rw [if_neg w20_78] at g20
        by_cases w20_80 : hk D11 x3 = (80, 0)
        · rw [if_pos w20_80] at g20
          have hR := (h_J41_next_ok (G := G) hP11 g20)
          exact hw_callM (rest := []) hR (fun hc hk9 => x_callF (C := "java/util/TreeMap$EntryIterator") (as := []) (rest := []) dX34_fraud_20 hc q3031 q4481 (by decide +kernel) q3027 q3029 q499 q3030 q3028 q2986 w20_80 rfl rfl (show _ = some 0 from by decide +kernel) (by decide) (by decide) rfl (Nat.le_of_ble_eq_true rfl) hk9 aw_nox)
        rw [if_neg w20_80] at g20
        by_cases w20_82 : hk D11 x3 = (82, 0)
        · rw [if_pos w20_82] at g20
          have hR := (h_J43_next_ok (G := G) hP11 g20)
          exact hw_callM (rest := []) hR (fun hc hk9 => x_callF (C := "java/util/ArrayDeque$DeqIterator") (as := []) (rest := []) dX34_fraud_20 hc q3000 q4481 (by decide +kernel) q2996 q2998 q502 q2999 q2997 q2968 w20_82 rfl rfl (show _ = some 0 from by decide +kernel) (by decide) (by decide) rfl (Nat.le_of_ble_eq_true rfl) hk9 aw_nox)
        rw [if_neg w20_82] at g20
        exact absurd g20 (by intro h; cases h)
      obtain ⟨hP20, hE20, hS20⟩ := hS20
      refine hw_go ⟨hE20, hS20⟩ ?_
      replace h := ga_ck_some h; obtain ⟨hc25_0, h⟩ := h
      refine hw_1 (fun k => x_castL (L := [70]) dX34_fraud_25 q4327 sbl_java_lang_Integer (aw_or1 hc25_0) k) ?_
      replace h := ga_ck_some h; obtain ⟨hc28_1, h⟩ := h
      replace h := ga_bind_some h; obtain ⟨r28, D28, g28, h⟩ := h
      have hR28 := (h_J25_intValue_ok (G := G) hP20 g28)
      obtain ⟨hP28, hE28, -⟩ := id hR28
      refine hw_call (rest := []) hR28 (fun hc hk9 => x_callV (as := []) (rest := []) dX34_fraud_28 hc (lw_V q4328 q3152 q3153 q476 q3154) hc28_1 rfl rfl (show _ ∧ _ ∧ _ ∧ _ = some 0 from by decide +kernel) (by decide) (by decide) rfl (Nat.le_of_ble_eq_true rfl) hk9 aw_nox) ?_
      refine hw_1 (fun k => x_istore (ls' := [(4, (0, r28)), (2, (0, x2)), (3, (2, x3))]) dX34_fraud_31 (by decide) rfl k) ?_
      refine hw_1 (fun k => x_iload_n dX34_fraud_33 rfl k) ?_
      replace h := ga_let_some h; obtain ⟨v34, ev34, h⟩ := h
      refine hw_1 (fun k => x_iinc (ls' := [(2, (0, v34)), (4, (0, r28)), (3, (2, x3))]) dX34_fraud_34 rfl ev34.symm (by decide) rfl k) ?_
      by_cases c37 : x2 ≠ 0
      · rw [if_pos c37] at h
        refine hw_1 (fun k => x_if_ne (tgt := 43) dX34_fraud_37 (by decide) (fun _ => k) (fun z => absurd c37 z)) ?_
        refine hw_1 (fun k => x_goto (tgt := 10) dX34_fraud_43 (by decide) k) ?_
        refine hw_locs [0, 2] (ls' := [(2, (0, v34)), (3, (2, x3))]) rfl ?_
        exact ih _ _ _ hP28 h
      · rw [if_neg c37] at h
        refine hw_1 (fun k => x_if_ne (tgt := 43) dX34_fraud_37 (by decide) (fun z => absurd z c37) (fun _ => k)) ?_
        refine hw_locs [1] (ls' := [(4, (0, r28))]) rfl ?_
        exact hk40 _ _ hP28 h
theorem h_X34_fraud_ok {G : aw_G} {D D' : ga_D} {r : Int} {x1 : Int} (hP : h_P D) (h : h_X34_fraud x1 D = some (r, D')) : aw_HR yX34_fraud cX34_fraud 5 (some (.int)) 4 G [(2, 5028), (0, x1)] D (some (0, r)) D' := by
  unfold h_X34_fraud at h
  refine hw_body (own := "WasteHouse$DepositCodes") (ini := false) (ls := [(0, (2, 5028)), (1, (0, x1))]) rfl rfl (fun h => by cases h) (Nat.le_of_ble_eq_true rfl) rfl fun Q hq => ?_
  refine hw_1 (fun k => x_iload_n dX34_fraud_0 rfl k) ?_
  refine hw_1 (fun k => x_istore_n (ls' := [(2, (0, x1)), (0, (2, 5028)), (1, (0, x1))]) dX34_fraud_1 (by decide) rfl k) ?_
  refine hw_1 (fun k => x_aload_n dX34_fraud_2 rfl k) ?_
  refine hw_1 (fun k => x_getf (v := 5037) dX34_fraud_3 fl_X34_42 (hkS (D := D) (show ga_K 5028 = (31, 0) from by decide +kernel) (by decide)) (hP.1 5028 5 5037 (by decide +kernel)) k) ?_
  replace h := ga_bind_some h; obtain ⟨r6, D6, g6, h⟩ := h
  have hR6 := (h_J7_iterator_ok (G := G) hP g6)
  obtain ⟨hP6, hE6, -⟩ := id hR6
  refine hw_call (rest := []) hR6 (fun hc hk9 => x_callV (as := []) (rest := []) dX34_fraud_6 hc (lw_V q4770 q4666 q9602 q435 q4668) (hkS (D := D) (show ga_K 5037 = (62, 0) from by decide +kernel) (by decide)) rfl rfl (show _ ∧ _ ∧ _ ∧ _ = some 0 from by decide +kernel) (by decide) (by decide) rfl (Nat.le_of_ble_eq_true rfl) hk9 aw_nox) ?_
  refine hw_1 (fun k => x_astore_n (ls' := [(3, (2, r6)), (2, (0, x1)), (0, (2, 5028)), (1, (0, x1))]) dX34_fraud_9 (by decide) rfl k) ?_
  refine hw_locs [1, 0] (ls' := [(2, (0, x1)), (3, (2, r6))]) rfl ?_
  refine h_X34_fraud_l10_ok hq (fun x4 D40 hP h => ?_) (fun D46 hP h => ?_) hP6 h
  · refine hw_1 (fun k => x_iload dX34_fraud_40 rfl k) ?_
    obtain ⟨rfl, rfl⟩ := ga_end h
    exact hw_ret hP (x_iret dX34_fraud_42 rfl rfl trivial hq)
  · refine hw_1 (fun k => x_iconst dX34_fraud_46 (by decide) k) ?_
    obtain ⟨rfl, rfl⟩ := ga_end h
    exact hw_ret hP (x_iret dX34_fraud_47 rfl rfl trivial hq)
