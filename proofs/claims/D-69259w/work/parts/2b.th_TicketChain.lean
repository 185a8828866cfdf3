theorem fl_X2_10 : aw_Fl "WasteHouse$TicketChain" 10 1 0 2 := ⟨aw_q1, "WasteHouse$TicketChain", rfl, by decide, q682, Or.inl rfl, rfl⟩
theorem fl_X2_19 : aw_Fl "WasteHouse$TicketChain" 19 1 1 2 := ⟨aw_q1, "WasteHouse$TicketChain", rfl, by decide, q683, Or.inl rfl, rfl⟩
theorem fl_X2_23 : aw_Fl "WasteHouse$TicketChain" 23 1 2 2 := ⟨aw_q1, "WasteHouse$TicketChain", rfl, by decide, q684, Or.inl rfl, rfl⟩
theorem fl_X2_29 : aw_Fl "WasteHouse$TicketChain" 29 1 3 2 := ⟨aw_q1, "WasteHouse$TicketChain", rfl, by decide, q685, Or.inl rfl, rfl⟩
theorem fl_X2_35 : aw_Fl "WasteHouse$TicketChain" 35 1 5 2 := ⟨aw_q1, "WasteHouse$TicketChain", rfl, by decide, q687, Or.inl rfl, rfl⟩
theorem fl_X2_39 : aw_Fl "WasteHouse$TicketChain" 39 1 6 0 := ⟨aw_q1, "WasteHouse$TicketChain", rfl, by decide, q688, Or.inl rfl, rfl⟩
theorem fl_X2_93 : aw_Fl "WasteHouse$TicketChain" 93 1 4 0 := ⟨aw_q1, "WasteHouse$TicketChain", rfl, by decide, q686, Or.inl rfl, rfl⟩
theorem fl_X2_138 : aw_Fl "WasteHouse$TicketChain" 138 58 0 0 := ⟨aw_q58, "WasteHouse$TicketChain$Ticket", rfl, by decide, q5130, Or.inl rfl, rfl⟩
theorem fl_X2_184 : aw_FlN "WasteHouse$TicketChain" 184 2 5 2 := ⟨aw_q2, "WasteHouse$TicketChain$Chain", "WasteHouse", rfl, by decide, q663, Or.inl rfl, rfl⟩
theorem fl_X3_17 : aw_Fl "WasteHouse$TicketChain$Chain" 17 2 0 2 := ⟨aw_q2, "WasteHouse$TicketChain$Chain", rfl, by decide, q657, Or.inl rfl, rfl⟩
theorem fl_X3_26 : aw_Fl "WasteHouse$TicketChain$Chain" 26 2 1 2 := ⟨aw_q2, "WasteHouse$TicketChain$Chain", rfl, by decide, q658, Or.inl rfl, rfl⟩
theorem fl_X3_33 : aw_Fl "WasteHouse$TicketChain$Chain" 33 2 2 2 := ⟨aw_q2, "WasteHouse$TicketChain$Chain", rfl, by decide, q659, Or.inl rfl, rfl⟩
theorem fl_X3_40 : aw_Fl "WasteHouse$TicketChain$Chain" 40 2 3 2 := ⟨aw_q2, "WasteHouse$TicketChain$Chain", rfl, by decide, q660, Or.inl rfl, rfl⟩
theorem fl_X3_44 : aw_Fl "WasteHouse$TicketChain$Chain" 44 2 4 2 := ⟨aw_q2, "WasteHouse$TicketChain$Chain", rfl, by decide, q661, Or.inl rfl, rfl⟩
theorem fl_X3_48 : aw_Fl "WasteHouse$TicketChain$Chain" 48 2 5 2 := ⟨aw_q2, "WasteHouse$TicketChain$Chain", rfl, by decide, q662, Or.inl rfl, rfl⟩
theorem fl_X3_68 : aw_Fl "WasteHouse$TicketChain$Chain" 68 58 0 0 := ⟨aw_q58, "WasteHouse$TicketChain$Ticket", rfl, by decide, q5129, Or.inl rfl, rfl⟩
theorem fl_X4_9 : aw_Fl "WasteHouse$TicketChain$Sum" 9 3 1 2 := ⟨aw_q3, "WasteHouse$TicketChain$Sum", rfl, by decide, q563, Or.inl rfl, rfl⟩
theorem fl_X4_15 : aw_Fl "WasteHouse$TicketChain$Sum" 15 3 2 2 := ⟨aw_q3, "WasteHouse$TicketChain$Sum", rfl, by decide, q564, Or.inl rfl, rfl⟩
theorem fl_X4_18 : aw_Fl "WasteHouse$TicketChain$Sum" 18 3 3 2 := ⟨aw_q3, "WasteHouse$TicketChain$Sum", rfl, by decide, q565, Or.inl rfl, rfl⟩
theorem fl_X4_22 : aw_Fl "WasteHouse$TicketChain$Sum" 22 3 0 2 := ⟨aw_q3, "WasteHouse$TicketChain$Sum", rfl, by decide, q562, Or.inl rfl, rfl⟩
theorem fl_X4_26 : aw_Fl "WasteHouse$TicketChain$Sum" 26 4 1 2 := ⟨aw_q4, "WasteHouse$TicketChain$Fixed", rfl, by decide, q551, Or.inl rfl, rfl⟩
theorem fl_X4_37 : aw_Fl "WasteHouse$TicketChain$Sum" 37 3 4 1 := ⟨aw_q3, "WasteHouse$TicketChain$Sum", rfl, by decide, q566, Or.inl rfl, rfl⟩
theorem fl_X4_56 : aw_Fl "WasteHouse$TicketChain$Sum" 56 4 0 2 := ⟨aw_q4, "WasteHouse$TicketChain$Fixed", rfl, by decide, q549, Or.inl rfl, rfl⟩
theorem fl_X6_7 : aw_Fl "WasteHouse$TicketChain$Writer" 7 5 0 2 := ⟨aw_q5, "WasteHouse$TicketChain$Writer", rfl, by decide, q585, Or.inl rfl, rfl⟩
theorem fl_X6_13 : aw_Fl "WasteHouse$TicketChain$Writer" 13 5 1 0 := ⟨aw_q5, "WasteHouse$TicketChain$Writer", rfl, by decide, q586, Or.inl rfl, rfl⟩
theorem fl_X63_9 : aw_Fl "WasteHouse$TicketChain$Ticket" 9 58 1 2 := ⟨aw_q58, "WasteHouse$TicketChain$Ticket", rfl, by decide, q5131, Or.inl rfl, rfl⟩
theorem fl_X63_15 : aw_Fl "WasteHouse$TicketChain$Ticket" 15 58 2 2 := ⟨aw_q58, "WasteHouse$TicketChain$Ticket", rfl, by decide, q5132, Or.inl rfl, rfl⟩
theorem fl_X63_18 : aw_Fl "WasteHouse$TicketChain$Ticket" 18 58 3 2 := ⟨aw_q58, "WasteHouse$TicketChain$Ticket", rfl, by decide, q5133, Or.inl rfl, rfl⟩
theorem fl_X63_21 : aw_Fl "WasteHouse$TicketChain$Ticket" 21 58 4 2 := ⟨aw_q58, "WasteHouse$TicketChain$Ticket", rfl, by decide, q5134, Or.inl rfl, rfl⟩
theorem fl_X63_24 : aw_Fl "WasteHouse$TicketChain$Ticket" 24 58 0 0 := ⟨aw_q58, "WasteHouse$TicketChain$Ticket", rfl, by decide, q5128, Or.inl rfl, rfl⟩
theorem h_X2_tareOf_j31_ok {G : aw_G} {M0 : aw_M} {D' : ga_D} {Q : Option aw_V → aw_M → Prop} {r : Int} (hq : Q (some (1, r)) (hM D')) {s0 : Int} {D : ga_D} (hP : h_P D) (h : h_X2_tareOf_j31 s0 D = some (r, D')) : aw_HW G "WasteHouse$TicketChain" cX2_tareOf (some (.long)) 5 6 false M0 Q aw_no D' (hn D') (hsl D') 31 [] [(2, s0)] D := by
  unfold h_X2_tareOf_j31 at h
  refine hw_1 (fun k => x_astore (ls' := [(4, (2, s0))]) dX2_tareOf_31 (by decide) rfl k) ?_
  refine hw_1 (fun k => x_aload dX2_tareOf_33 rfl k) ?_
  by_cases c35 : s0 ≠ 0
  · rw [if_pos c35] at h
    refine hw_1 (fun k => x_ifnonnull (tgt := 44) dX2_tareOf_35 (by decide) (fun _ => k) (fun z => absurd c35 z)) ?_
    refine hw_1 (fun k => x_aload dX2_tareOf_44 rfl k) ?_
    replace h := ga_bind_some h; obtain ⟨r46, D46, g46, h⟩ := h
    have hS46 : h_P D46 ∧ h_E D D46 ∧ ∃ mc ms : Nat, hn D + mc = hn D46 ∧ hsl D + ms = hsl D46 ∧ ∀ {c sl : Nat}, aw_W G "WasteHouse$TicketChain" cX2_tareOf (some (.long)) 5 6 false M0 Q aw_no c sl 51 [(4, (2, s0))] [(2, r46)] (hM D46) → aw_W G "WasteHouse$TicketChain" cX2_tareOf (some (.long)) 5 6 false M0 Q aw_no (c + mc) (sl + ms) 46 [(4, (2, s0))] [(2, s0)] (hM D) := by
      by_cases w46_74 : hk D s0 = (74, 0)
      · rw [if_pos w46_74] at g46
        have hR := (h_J31_getValue_ok (G := G) hP g46)
        exact hw_callM (rest := []) hR (fun hc hk9 => x_callF (C := "java/util/HashMap$Node") (as := []) (rest := []) dX2_tareOf_46 hc q4525 q5098 (by decide +kernel) q4521 q4523 q486 q4524 q4522 q4493 w46_74 rfl rfl (show _ = some 0 from by decide +kernel) (by decide) (by decide) rfl (Nat.le_of_ble_eq_true rfl) hk9 aw_nox)
      rw [if_neg w46_74] at g46
      by_cases w46_75 : hk D s0 = (75, 0)
      · rw [if_pos w46_75] at g46
        have hR := (h_J31_getValue_ok (G := G) hP g46)
        exact hw_callM (rest := []) hR (fun hc hk9 => x_callF (C := "java/util/HashMap$TreeNode") (as := []) (rest := []) dX2_tareOf_46 hc q4525 q5098 (by decide +kernel) q4526 q4523 q486 q4524 q4527 q4499 w46_75 rfl rfl (show _ = some 0 from by decide +kernel) (by decide) (by decide) rfl (Nat.le_of_ble_eq_true rfl) hk9 aw_nox)
      rw [if_neg w46_75] at g46
      by_cases w46_76 : hk D s0 = (76, 0)
      · rw [if_pos w46_76] at g46
        have hR := (h_J35_getValue_ok (G := G) hP g46)
        exact hw_callM (rest := []) hR (fun hc hk9 => x_callF (C := "java/util/TreeMap$Entry") (as := []) (rest := []) dX2_tareOf_46 hc q4532 q5098 (by decide +kernel) q4528 q4530 q493 q4531 q4529 q4502 w46_76 rfl rfl (show _ = some 0 from by decide +kernel) (by decide) (by decide) rfl (Nat.le_of_ble_eq_true rfl) hk9 aw_nox)
      rw [if_neg w46_76] at g46
      by_cases w46_83 : hk D s0 = (83, 0)
      · rw [if_pos w46_83] at g46
        have hR := (h_J44_getValue_ok (G := G) hP g46)
        exact hw_callM (rest := []) hR (fun hc hk9 => x_callF (C := "java/util/AbstractMap$SimpleImmutableEntry") (as := []) (rest := []) dX2_tareOf_46 hc q4520 q5098 (by decide +kernel) q4516 q4518 q503 q4519 q4517 q4487 w46_83 rfl rfl (show _ = some 0 from by decide +kernel) (by decide) (by decide) rfl (Nat.le_of_ble_eq_true rfl) hk9 aw_nox)
      rw [if_neg w46_83] at g46
      exact absurd g46 (by intro h; cases h)
    obtain ⟨hP46, hE46, hS46⟩ := hS46
    refine hw_go ⟨hE46, hS46⟩ ?_
    replace h := ga_ck_some h; obtain ⟨hc51_0, h⟩ := h
    refine hw_1 (fun k => x_castL (L := [73]) dX2_tareOf_51 q5099 sbl_java_lang_Long (aw_or1 hc51_0) k) ?_
    replace h := ga_ck_some h; obtain ⟨hc54_1, h⟩ := h
    replace h := ga_bind_some h; obtain ⟨r54, D54, g54, h⟩ := h
    have hR54 := (h_J30_longValue_ok (G := G) hP46 g54)
    obtain ⟨hP54, hE54, -⟩ := id hR54
    refine hw_call (rest := []) hR54 (fun hc hk9 => x_callV (as := []) (rest := []) dX2_tareOf_54 hc (lw_V q5100 q3160 q3161 q485 q3162) hc54_1 rfl rfl (show _ ∧ _ ∧ _ ∧ _ = some 0 from by decide +kernel) (by decide) (by decide) rfl (Nat.le_of_ble_eq_true rfl) hk9 aw_nox) ?_
    obtain ⟨rfl, rfl⟩ := ga_end h
    exact hw_ret hP54 (x_lret dX2_tareOf_57 rfl hq)
  · rw [if_neg c35] at h
    refine hw_1 (fun k => x_ifnonnull (tgt := 44) dX2_tareOf_35 (by decide) (fun z => absurd z c35) (fun _ => k)) ?_
    refine hw_1 (fun k => x_ldc2 (z := (-1)) dX2_tareOf_38 q5096 (by decide) k) ?_
    refine hw_1 (fun k => x_goto (tgt := 57) dX2_tareOf_41 (by decide) k) ?_
    obtain ⟨rfl, rfl⟩ := ga_end h
    exact hw_ret hP (x_lret dX2_tareOf_57 rfl hq)
theorem h_X2_tareOf_ok {G : aw_G} {D D' : ga_D} {r : Int} {x1 x2 : Int} (hP : h_P D) (h : h_X2_tareOf x1 x2 D = some (r, D')) : aw_HR yX2_tareOf cX2_tareOf 5 (some (.long)) 6 G [(2, 4097), (0, x1), (0, x2)] D (some (1, r)) D' := by
  unfold h_X2_tareOf at h
  refine hw_body (own := "WasteHouse$TicketChain") (ini := false) (ls := [(0, (2, 4097)), (1, (0, x1)), (2, (0, x2))]) rfl rfl (fun h => by cases h) (Nat.le_of_ble_eq_true rfl) rfl fun Q hq => ?_
  refine hw_1 (fun k => x_aload_n dX2_tareOf_0 rfl k) ?_
  refine hw_1 (fun k => x_getf (v := 4113) dX2_tareOf_1 fl_X2_29 (hkS (D := D) (show ga_K 4097 = (1, 0) from by decide +kernel) (by decide)) (hP.1 4097 3 4113 (by decide +kernel)) k) ?_
  refine hw_1 (fun k => x_iload_n dX2_tareOf_4 rfl k) ?_
  replace h := ga_bind_some h; obtain ⟨r5, D5, g5, h⟩ := h
  have hR5 := (h_J25_valueOf_ok (G := G) hP g5)
  obtain ⟨hP5, hE5, -⟩ := id hR5
  refine hw_call (rest := [(2, 4113)]) hR5 (fun hc hk9 => x_callS (as := [(0, x1)]) (rest := [(2, 4113)]) dX2_tareOf_5 hc (lw_S q5066 q3560 q476 q3561) (show _ ∧ _ ∧ _ = some 1 from by decide +kernel) (by decide) (by decide) rfl (Nat.le_of_ble_eq_true rfl) hk9 aw_nox) ?_
  replace h := ga_bind_some h; obtain ⟨r8, D8, g8, h⟩ := h
  have hR8 := (h_J4_get_ok (G := G) hP5 g8)
  obtain ⟨hP8, hE8, -⟩ := id hR8
  refine hw_call (rest := []) hR8 (fun hc hk9 => x_callV (as := [(2, r5)]) (rest := []) dX2_tareOf_8 hc (lw_V q5067 q4315 q4316 q403 q4317) (hkS (D := D5) (show ga_K 4113 = (61, 0) from by decide +kernel) (by decide)) rfl rfl (show _ ∧ _ ∧ _ ∧ _ = some 1 from by decide +kernel) (by decide) (by decide) rfl (Nat.le_of_ble_eq_true rfl) hk9 aw_nox) ?_
  replace h := ga_ck_some h; obtain ⟨hc11_0, h⟩ := h
  refine hw_1 (fun k => x_castL (L := [61]) dX2_tareOf_11 q679 sbl_java_util_TreeMap (aw_or1 hc11_0) k) ?_
  refine hw_1 (fun k => x_astore_n (ls' := [(3, (2, r8)), (0, (2, 4097)), (1, (0, x1)), (2, (0, x2))]) dX2_tareOf_14 (by decide) rfl k) ?_
  refine hw_1 (fun k => x_aload_n dX2_tareOf_15 rfl k) ?_
  by_cases c16 : r8 ≠ 0
  · rw [if_pos c16] at h
    refine hw_1 (fun k => x_ifnonnull (tgt := 23) dX2_tareOf_16 (by decide) (fun _ => k) (fun z => absurd c16 z)) ?_
    refine hw_1 (fun k => x_aload_n dX2_tareOf_23 rfl k) ?_
    refine hw_1 (fun k => x_iload_n dX2_tareOf_24 rfl k) ?_
    replace h := ga_bind_some h; obtain ⟨r25, D25, g25, h⟩ := h
    have hR25 := (h_J25_valueOf_ok (G := G) hP8 g25)
    obtain ⟨hP25, hE25, -⟩ := id hR25
    refine hw_call (rest := [(2, r8)]) hR25 (fun hc hk9 => x_callS (as := [(0, x2)]) (rest := [(2, r8)]) dX2_tareOf_25 hc (lw_S q5066 q3560 q476 q3561) (show _ ∧ _ ∧ _ = some 1 from by decide +kernel) (by decide) (by decide) rfl (Nat.le_of_ble_eq_true rfl) hk9 aw_nox) ?_
    replace h := ga_ck_some h; obtain ⟨hc28_0, h⟩ := h
    replace h := ga_bind_some h; obtain ⟨r28, D28, g28, h⟩ := h
    have hR28 := (h_J4_floorEntry_ok (G := G) hP25 g28)
    obtain ⟨hP28, hE28, -⟩ := id hR28
    refine hw_call (rest := []) hR28 (fun hc hk9 => x_callV (as := [(2, r25)]) (rest := []) dX2_tareOf_28 hc (lw_V q5068 q5069 q5070 q403 q5071) hc28_0 rfl rfl (show _ ∧ _ ∧ _ ∧ _ = some 1 from by decide +kernel) (by decide) (by decide) rfl (Nat.le_of_ble_eq_true rfl) hk9 aw_nox) ?_
    refine hw_locs [] (ls' := []) rfl ?_
    refine h_X2_tareOf_j31_ok hq hP28 h
  · rw [if_neg c16] at h
    refine hw_1 (fun k => x_ifnonnull (tgt := 23) dX2_tareOf_16 (by decide) (fun z => absurd z c16) (fun _ => k)) ?_
    refine hw_1 (fun k => x_null dX2_tareOf_19 k) ?_
    refine hw_1 (fun k => x_goto (tgt := 31) dX2_tareOf_20 (by decide) k) ?_
    refine hw_locs [] (ls' := []) rfl ?_
    refine h_X2_tareOf_j31_ok hq hP8 h
theorem h_X63_fits_ok {G : aw_G} {D D' : ga_D} {r : Int} {x0 x1 : Int} (hP : h_P D) (h : h_X63_fits x0 x1 D = some (r, D')) : aw_HR yX63_fits cX63_fits 3 (some (.boolean)) 0 G [(0, x0), (1, x1)] D (some (0, r)) D' := by
  unfold h_X63_fits at h
  refine hw_body (own := "WasteHouse$TicketChain$Ticket") (ini := false) (ls := [(0, (0, x0)), (1, (1, x1))]) rfl rfl (fun h => by cases h) (Nat.le_of_ble_eq_true rfl) rfl fun Q hq => ?_
  refine hw_1 (fun k => x_iload_n dX63_fits_0 rfl k) ?_
  by_cases n1_1 : x0 = 1
  · rw [if_pos n1_1] at h
    refine hw_1 (fun k => x_tin (tgt := 44) dX63_fits_1 (by omega) (by omega) (by rw [n1_1]; rfl) (by decide) k) ?_
    refine hw_1 (fun k => x_lload_n dX63_fits_44 rfl k) ?_
    refine hw_1 (fun k => x_lconst (v := 0) dX63_fits_45 rfl k) ?_
    refine hw_1 (fun k => x_lcmp dX63_fits_46 rfl k) ?_
    by_cases c47 : x1 < 0
    · rw [if_pos c47] at h
      refine hw_1 (fun k => x_if_lt (tgt := 62) dX63_fits_47 (by decide) (fun _ => k) (fun z => absurd (cmi_lt.mpr c47) z)) ?_
      refine hw_1 (fun k => x_iconst dX63_fits_62 (by decide) k) ?_
      obtain ⟨rfl, rfl⟩ := ga_end h
      exact hw_ret hP (x_iret dX63_fits_63 rfl rfl (show (0 : Int) ≤ 0 ∧ (0 : Int) < 2 from by decide) hq)
    · rw [if_neg c47] at h
      refine hw_1 (fun k => x_if_lt (tgt := 62) dX63_fits_47 (by decide) (fun z => absurd (cmi_lt.mp z) c47) (fun _ => k)) ?_
      refine hw_1 (fun k => x_lload_n dX63_fits_50 rfl k) ?_
      refine hw_1 (fun k => x_ldc2 (z := 100) dX63_fits_51 q5109 (by decide) k) ?_
      refine hw_1 (fun k => x_lcmp dX63_fits_54 rfl k) ?_
      by_cases c55 : 100 ≤ x1
      · rw [if_pos c55] at h
        refine hw_1 (fun k => x_if_ge (tgt := 62) dX63_fits_55 (by decide) (fun _ => k) (fun z => absurd (cmi_ge.mpr c55) z)) ?_
        refine hw_1 (fun k => x_iconst dX63_fits_62 (by decide) k) ?_
        obtain ⟨rfl, rfl⟩ := ga_end h
        exact hw_ret hP (x_iret dX63_fits_63 rfl rfl (show (0 : Int) ≤ 0 ∧ (0 : Int) < 2 from by decide) hq)
      · rw [if_neg c55] at h
        refine hw_1 (fun k => x_if_ge (tgt := 62) dX63_fits_55 (by decide) (fun z => absurd (cmi_ge.mp z) c55) (fun _ => k)) ?_
        refine hw_1 (fun k => x_iconst dX63_fits_58 (by decide) k) ?_
        refine hw_1 (fun k => x_goto (tgt := 63) dX63_fits_59 (by decide) k) ?_
        obtain ⟨rfl, rfl⟩ := ga_end h
        exact hw_ret hP (x_iret dX63_fits_63 rfl rfl (show (0 : Int) ≤ 1 ∧ (1 : Int) < 2 from by decide) hq)
  rw [if_neg n1_1] at h
  by_cases n1_2 : x0 = 2
  · rw [if_pos n1_2] at h
    refine hw_1 (fun k => x_tin (tgt := 64) dX63_fits_1 (by omega) (by omega) (by rw [n1_2]; rfl) (by decide) k) ?_
    refine hw_1 (fun k => x_lload_n dX63_fits_64 rfl k) ?_
    refine hw_1 (fun k => x_lconst (v := 0) dX63_fits_65 rfl k) ?_
    refine hw_1 (fun k => x_lcmp dX63_fits_66 rfl k) ?_
    by_cases c67 : x1 < 0
    · rw [if_pos c67] at h
      refine hw_1 (fun k => x_if_lt (tgt := 82) dX63_fits_67 (by decide) (fun _ => k) (fun z => absurd (cmi_lt.mpr c67) z)) ?_
      refine hw_1 (fun k => x_iconst dX63_fits_82 (by decide) k) ?_
      obtain ⟨rfl, rfl⟩ := ga_end h
      exact hw_ret hP (x_iret dX63_fits_83 rfl rfl (show (0 : Int) ≤ 0 ∧ (0 : Int) < 2 from by decide) hq)
    · rw [if_neg c67] at h
      refine hw_1 (fun k => x_if_lt (tgt := 82) dX63_fits_67 (by decide) (fun z => absurd (cmi_lt.mp z) c67) (fun _ => k)) ?_
      refine hw_1 (fun k => x_lload_n dX63_fits_70 rfl k) ?_
      refine hw_1 (fun k => x_ldc2 (z := 10) dX63_fits_71 q5110 (by decide) k) ?_
      refine hw_1 (fun k => x_lcmp dX63_fits_74 rfl k) ?_
      by_cases c75 : 10 ≤ x1
      · rw [if_pos c75] at h
        refine hw_1 (fun k => x_if_ge (tgt := 82) dX63_fits_75 (by decide) (fun _ => k) (fun z => absurd (cmi_ge.mpr c75) z)) ?_
        refine hw_1 (fun k => x_iconst dX63_fits_82 (by decide) k) ?_
        obtain ⟨rfl, rfl⟩ := ga_end h
        exact hw_ret hP (x_iret dX63_fits_83 rfl rfl (show (0 : Int) ≤ 0 ∧ (0 : Int) < 2 from by decide) hq)
      · rw [if_neg c75] at h
        refine hw_1 (fun k => x_if_ge (tgt := 82) dX63_fits_75 (by decide) (fun z => absurd (cmi_ge.mp z) c75) (fun _ => k)) ?_
        refine hw_1 (fun k => x_iconst dX63_fits_78 (by decide) k) ?_
        refine hw_1 (fun k => x_goto (tgt := 83) dX63_fits_79 (by decide) k) ?_
        obtain ⟨rfl, rfl⟩ := ga_end h
        exact hw_ret hP (x_iret dX63_fits_83 rfl rfl (show (0 : Int) ≤ 1 ∧ (1 : Int) < 2 from by decide) hq)
  rw [if_neg n1_2] at h
  by_cases n1_3 : x0 = 3
  · rw [if_pos n1_3] at h
    refine hw_1 (fun k => x_tin (tgt := 84) dX63_fits_1 (by omega) (by omega) (by rw [n1_3]; rfl) (by decide) k) ?_
    refine hw_1 (fun k => x_lload_n dX63_fits_84 rfl k) ?_
    refine hw_1 (fun k => x_lconst (v := 0) dX63_fits_85 rfl k) ?_
    refine hw_1 (fun k => x_lcmp dX63_fits_86 rfl k) ?_
    by_cases c87 : x1 < 0
    · rw [if_pos c87] at h
      refine hw_1 (fun k => x_if_lt (tgt := 102) dX63_fits_87 (by decide) (fun _ => k) (fun z => absurd (cmi_lt.mpr c87) z)) ?_
      refine hw_1 (fun k => x_iconst dX63_fits_102 (by decide) k) ?_
      obtain ⟨rfl, rfl⟩ := ga_end h
      exact hw_ret hP (x_iret dX63_fits_103 rfl rfl (show (0 : Int) ≤ 0 ∧ (0 : Int) < 2 from by decide) hq)
    · rw [if_neg c87] at h
      refine hw_1 (fun k => x_if_lt (tgt := 102) dX63_fits_87 (by decide) (fun z => absurd (cmi_lt.mp z) c87) (fun _ => k)) ?_
      refine hw_1 (fun k => x_lload_n dX63_fits_90 rfl k) ?_
      refine hw_1 (fun k => x_ldc2 (z := 1000000000) dX63_fits_91 q5111 (by decide) k) ?_
      refine hw_1 (fun k => x_lcmp dX63_fits_94 rfl k) ?_
      by_cases c95 : 1000000000 < x1
      · rw [if_pos c95] at h
        refine hw_1 (fun k => x_if_gt (tgt := 102) dX63_fits_95 (by decide) (fun _ => k) (fun z => absurd (cmi_gt.mpr c95) z)) ?_
        refine hw_1 (fun k => x_iconst dX63_fits_102 (by decide) k) ?_
        obtain ⟨rfl, rfl⟩ := ga_end h
        exact hw_ret hP (x_iret dX63_fits_103 rfl rfl (show (0 : Int) ≤ 0 ∧ (0 : Int) < 2 from by decide) hq)
      · rw [if_neg c95] at h
        refine hw_1 (fun k => x_if_gt (tgt := 102) dX63_fits_95 (by decide) (fun z => absurd (cmi_gt.mp z) c95) (fun _ => k)) ?_
        refine hw_1 (fun k => x_iconst dX63_fits_98 (by decide) k) ?_
        refine hw_1 (fun k => x_goto (tgt := 103) dX63_fits_99 (by decide) k) ?_
        obtain ⟨rfl, rfl⟩ := ga_end h
        exact hw_ret hP (x_iret dX63_fits_103 rfl rfl (show (0 : Int) ≤ 1 ∧ (1 : Int) < 2 from by decide) hq)
  rw [if_neg n1_3] at h
  by_cases n1_4 : x0 = 4
  · rw [if_pos n1_4] at h
    refine hw_1 (fun k => x_tin (tgt := 84) dX63_fits_1 (by omega) (by omega) (by rw [n1_4]; rfl) (by decide) k) ?_
    refine hw_1 (fun k => x_lload_n dX63_fits_84 rfl k) ?_
    refine hw_1 (fun k => x_lconst (v := 0) dX63_fits_85 rfl k) ?_
    refine hw_1 (fun k => x_lcmp dX63_fits_86 rfl k) ?_
    by_cases c87 : x1 < 0
    · rw [if_pos c87] at h
      refine hw_1 (fun k => x_if_lt (tgt := 102) dX63_fits_87 (by decide) (fun _ => k) (fun z => absurd (cmi_lt.mpr c87) z)) ?_
      refine hw_1 (fun k => x_iconst dX63_fits_102 (by decide) k) ?_
      obtain ⟨rfl, rfl⟩ := ga_end h
      exact hw_ret hP (x_iret dX63_fits_103 rfl rfl (show (0 : Int) ≤ 0 ∧ (0 : Int) < 2 from by decide) hq)
    · rw [if_neg c87] at h
      refine hw_1 (fun k => x_if_lt (tgt := 102) dX63_fits_87 (by decide) (fun z => absurd (cmi_lt.mp z) c87) (fun _ => k)) ?_
      refine hw_1 (fun k => x_lload_n dX63_fits_90 rfl k) ?_
      refine hw_1 (fun k => x_ldc2 (z := 1000000000) dX63_fits_91 q5111 (by decide) k) ?_
      refine hw_1 (fun k => x_lcmp dX63_fits_94 rfl k) ?_
      by_cases c95 : 1000000000 < x1
      · rw [if_pos c95] at h
        refine hw_1 (fun k => x_if_gt (tgt := 102) dX63_fits_95 (by decide) (fun _ => k) (fun z => absurd (cmi_gt.mpr c95) z)) ?_
        refine hw_1 (fun k => x_iconst dX63_fits_102 (by decide) k) ?_
        obtain ⟨rfl, rfl⟩ := ga_end h
        exact hw_ret hP (x_iret dX63_fits_103 rfl rfl (show (0 : Int) ≤ 0 ∧ (0 : Int) < 2 from by decide) hq)
      · rw [if_neg c95] at h
        refine hw_1 (fun k => x_if_gt (tgt := 102) dX63_fits_95 (by decide) (fun z => absurd (cmi_gt.mp z) c95) (fun _ => k)) ?_
        refine hw_1 (fun k => x_iconst dX63_fits_98 (by decide) k) ?_
        refine hw_1 (fun k => x_goto (tgt := 103) dX63_fits_99 (by decide) k) ?_
        obtain ⟨rfl, rfl⟩ := ga_end h
        exact hw_ret hP (x_iret dX63_fits_103 rfl rfl (show (0 : Int) ≤ 1 ∧ (1 : Int) < 2 from by decide) hq)
  rw [if_neg n1_4] at h
  by_cases n1_5 : x0 = 5
  · rw [if_pos n1_5] at h
    refine hw_1 (fun k => x_tin (tgt := 144) dX63_fits_1 (by omega) (by omega) (by rw [n1_5]; rfl) (by decide) k) ?_
    refine hw_1 (fun k => x_iconst dX63_fits_144 (by decide) k) ?_
    obtain ⟨rfl, rfl⟩ := ga_end h
    exact hw_ret hP (x_iret dX63_fits_145 rfl rfl (show (0 : Int) ≤ 0 ∧ (0 : Int) < 2 from by decide) hq)
  rw [if_neg n1_5] at h
  by_cases n1_6 : x0 = 6
  · rw [if_pos n1_6] at h
    refine hw_1 (fun k => x_tin (tgt := 104) dX63_fits_1 (by omega) (by omega) (by rw [n1_6]; rfl) (by decide) k) ?_
    refine hw_1 (fun k => x_lload_n dX63_fits_104 rfl k) ?_
    refine hw_1 (fun k => x_lconst (v := 0) dX63_fits_105 rfl k) ?_
    refine hw_1 (fun k => x_lcmp dX63_fits_106 rfl k) ?_
    by_cases c107 : x1 < 0
    · rw [if_pos c107] at h
      refine hw_1 (fun k => x_if_lt (tgt := 122) dX63_fits_107 (by decide) (fun _ => k) (fun z => absurd (cmi_lt.mpr c107) z)) ?_
      refine hw_1 (fun k => x_iconst dX63_fits_122 (by decide) k) ?_
      obtain ⟨rfl, rfl⟩ := ga_end h
      exact hw_ret hP (x_iret dX63_fits_123 rfl rfl (show (0 : Int) ≤ 0 ∧ (0 : Int) < 2 from by decide) hq)
    · rw [if_neg c107] at h
      refine hw_1 (fun k => x_if_lt (tgt := 122) dX63_fits_107 (by decide) (fun z => absurd (cmi_lt.mp z) c107) (fun _ => k)) ?_
      refine hw_1 (fun k => x_lload_n dX63_fits_110 rfl k) ?_
      refine hw_1 (fun k => x_ldc2 (z := 8000000000) dX63_fits_111 q5112 (by decide) k) ?_
      refine hw_1 (fun k => x_lcmp dX63_fits_114 rfl k) ?_
      by_cases c115 : 8000000000 < x1
      · rw [if_pos c115] at h
        refine hw_1 (fun k => x_if_gt (tgt := 122) dX63_fits_115 (by decide) (fun _ => k) (fun z => absurd (cmi_gt.mpr c115) z)) ?_
        refine hw_1 (fun k => x_iconst dX63_fits_122 (by decide) k) ?_
        obtain ⟨rfl, rfl⟩ := ga_end h
        exact hw_ret hP (x_iret dX63_fits_123 rfl rfl (show (0 : Int) ≤ 0 ∧ (0 : Int) < 2 from by decide) hq)
      · rw [if_neg c115] at h
        refine hw_1 (fun k => x_if_gt (tgt := 122) dX63_fits_115 (by decide) (fun z => absurd (cmi_gt.mp z) c115) (fun _ => k)) ?_
        refine hw_1 (fun k => x_iconst dX63_fits_118 (by decide) k) ?_
        refine hw_1 (fun k => x_goto (tgt := 123) dX63_fits_119 (by decide) k) ?_
        obtain ⟨rfl, rfl⟩ := ga_end h
        exact hw_ret hP (x_iret dX63_fits_123 rfl rfl (show (0 : Int) ≤ 1 ∧ (1 : Int) < 2 from by decide) hq)
  rw [if_neg n1_6] at h
  by_cases n1_7 : x0 = 7
  · rw [if_pos n1_7] at h
    refine hw_1 (fun k => x_tin (tgt := 124) dX63_fits_1 (by omega) (by omega) (by rw [n1_7]; rfl) (by decide) k) ?_
    refine hw_1 (fun k => x_lload_n dX63_fits_124 rfl k) ?_
    refine hw_1 (fun k => x_lconst (v := 0) dX63_fits_125 rfl k) ?_
    refine hw_1 (fun k => x_lcmp dX63_fits_126 rfl k) ?_
    by_cases c127 : x1 < 0
    · rw [if_pos c127] at h
      refine hw_1 (fun k => x_if_lt (tgt := 142) dX63_fits_127 (by decide) (fun _ => k) (fun z => absurd (cmi_lt.mpr c127) z)) ?_
      refine hw_1 (fun k => x_iconst dX63_fits_142 (by decide) k) ?_
      obtain ⟨rfl, rfl⟩ := ga_end h
      exact hw_ret hP (x_iret dX63_fits_143 rfl rfl (show (0 : Int) ≤ 0 ∧ (0 : Int) < 2 from by decide) hq)
    · rw [if_neg c127] at h
      refine hw_1 (fun k => x_if_lt (tgt := 142) dX63_fits_127 (by decide) (fun z => absurd (cmi_lt.mp z) c127) (fun _ => k)) ?_
      refine hw_1 (fun k => x_lload_n dX63_fits_130 rfl k) ?_
      refine hw_1 (fun k => x_ldc2 (z := 1000) dX63_fits_131 q5113 (by decide) k) ?_
      refine hw_1 (fun k => x_lcmp dX63_fits_134 rfl k) ?_
      by_cases c135 : 1000 ≤ x1
      · rw [if_pos c135] at h
        refine hw_1 (fun k => x_if_ge (tgt := 142) dX63_fits_135 (by decide) (fun _ => k) (fun z => absurd (cmi_ge.mpr c135) z)) ?_
        refine hw_1 (fun k => x_iconst dX63_fits_142 (by decide) k) ?_
        obtain ⟨rfl, rfl⟩ := ga_end h
        exact hw_ret hP (x_iret dX63_fits_143 rfl rfl (show (0 : Int) ≤ 0 ∧ (0 : Int) < 2 from by decide) hq)
      · rw [if_neg c135] at h
        refine hw_1 (fun k => x_if_ge (tgt := 142) dX63_fits_135 (by decide) (fun z => absurd (cmi_ge.mp z) c135) (fun _ => k)) ?_
        refine hw_1 (fun k => x_iconst dX63_fits_138 (by decide) k) ?_
        refine hw_1 (fun k => x_goto (tgt := 143) dX63_fits_139 (by decide) k) ?_
        obtain ⟨rfl, rfl⟩ := ga_end h
        exact hw_ret hP (x_iret dX63_fits_143 rfl rfl (show (0 : Int) ≤ 1 ∧ (1 : Int) < 2 from by decide) hq)
  rw [if_neg n1_7] at h
  by_cases o1 : x0 < 1 ∨ 7 < x0
  · refine hw_1 (fun k => x_tout (tgt := 144) dX63_fits_1 o1 (by decide) k) ?_
    refine hw_1 (fun k => x_iconst dX63_fits_144 (by decide) k) ?_
    obtain ⟨rfl, rfl⟩ := ga_end h
    exact hw_ret hP (x_iret dX63_fits_145 rfl rfl (show (0 : Int) ≤ 0 ∧ (0 : Int) < 2 from by decide) hq)
  · exfalso; omega
theorem h_X3_isFull_ok {G : aw_G} {D D' : ga_D} {r : Int} (hP : h_P D) (h : h_X3_isFull D = some (r, D')) : aw_HR yX3_isFull cX3_isFull 1 (some (.boolean)) 1 G [(2, 4098)] D (some (0, r)) D' := by
  unfold h_X3_isFull at h
  refine hw_body (own := "WasteHouse$TicketChain$Chain") (ini := false) (ls := [(0, (2, 4098))]) rfl rfl (fun h => by cases h) (Nat.le_of_ble_eq_true rfl) rfl fun Q hq => ?_
  refine hw_1 (fun k => x_aload_n dX3_isFull_0 rfl k) ?_
  refine hw_1 (fun k => x_getf (v := 4107) dX3_isFull_1 fl_X3_33 (hkS (D := D) (show ga_K 4098 = (2, 0) from by decide +kernel) (by decide)) (hP.1 4098 2 4107 (by decide +kernel)) k) ?_
  replace h := ga_bind_some h; obtain ⟨r4, D4, g4, h⟩ := h
  have hR4 := (h_J2_size_ok (G := G) hP g4)
  obtain ⟨hP4, hE4, -⟩ := id hR4
  refine hw_call (rest := []) hR4 (fun hc hk9 => x_callV (as := []) (rest := []) dX3_isFull_4 hc (lw_V q5118 q3530 q3531 q401 q3532) (hkS (D := D) (show ga_K 4107 = (60, 0) from by decide +kernel) (by decide)) rfl rfl (show _ ∧ _ ∧ _ ∧ _ = some 0 from by decide +kernel) (by decide) (by decide) rfl (Nat.le_of_ble_eq_true rfl) hk9 aw_nox) ?_
  refine hw_1 (fun k => x_sipush dX3_isFull_7 (by decide) k) ?_
  by_cases c10 : r4 ≠ 200
  · rw [if_pos c10] at h
    refine hw_1 (fun k => x_icmp_ne (tgt := 17) dX3_isFull_10 (by decide) (fun _ => k) (fun z => absurd c10 z)) ?_
    refine hw_1 (fun k => x_iconst dX3_isFull_17 (by decide) k) ?_
    obtain ⟨rfl, rfl⟩ := ga_end h
    exact hw_ret hP4 (x_iret dX3_isFull_18 rfl rfl (show (0 : Int) ≤ 0 ∧ (0 : Int) < 2 from by decide) hq)
  · rw [if_neg c10] at h
    refine hw_1 (fun k => x_icmp_ne (tgt := 17) dX3_isFull_10 (by decide) (fun z => absurd z c10) (fun _ => k)) ?_
    refine hw_1 (fun k => x_iconst dX3_isFull_13 (by decide) k) ?_
    refine hw_1 (fun k => x_goto (tgt := 18) dX3_isFull_14 (by decide) k) ?_
    obtain ⟨rfl, rfl⟩ := ga_end h
    exact hw_ret hP4 (x_iret dX3_isFull_18 rfl rfl (show (0 : Int) ≤ 1 ∧ (1 : Int) < 2 from by decide) hq)
theorem h_X63_init_ok {G : aw_G} {D D' : ga_D} {r : Int} {x0 x1 : Int} (hx0 : 0 < x0) (hP : h_P D) (h : h_X63_init x0 x1 D = some (r, D')) : aw_HR yX63_init cX63_init 2 none 1 G [(2, x0), (0, x1)] D none D' := by
  unfold h_X63_init at h
  refine hw_body (own := "WasteHouse$TicketChain$Ticket") (ini := true) (ls := [(0, (2, x0)), (1, (0, x1))]) rfl rfl (fun _ => rfl) (Nat.le_of_ble_eq_true rfl) rfl fun Q hq => ?_
  refine hw_1 (fun k => x_aload_n dX63_init_0 rfl k) ?_
  refine hw_1 (fun k => x_objInit0 dX63_init_1 q5127 q512 q513 hx0 (by decide) (Nat.le_of_ble_eq_true rfl) k) ?_
  refine hw_1 (fun k => x_aload_n dX63_init_4 rfl k) ?_
  refine hw_1 (fun k => x_bipush dX63_init_5 (by decide) k) ?_
  replace h := ga_let_some h; obtain ⟨z7, ez7, h⟩ := h
  replace h := ga_let_some h; obtain ⟨D7, eD7, h⟩ := h
  refine hy_newa (t := 1) hP ez7 eD7 rfl rfl dX63_init_7 rfl (by decide) q1197 (by decide) (by decide) (fun hP7 hE7 hz7 hg7 => ?_)
  replace h := ga_ck_some h; obtain ⟨hc9_0, h⟩ := h
  replace h := ga_let_some h; obtain ⟨D9, eD9, h⟩ := h
  refine hw_set eD9 (Int.le_trans (by decide) (hkge_58 hc9_0)) (by decide) (fun k => x_putfF dX63_init_9 fl_X63_9 rfl rfl hc9_0 (hkge_58 hc9_0) trivial k) ?_
  have hP9 : h_P D9 := hP7.set eD9 (hkge_58 hc9_0) (by decide) (hPn hc9_0 rfl)
  have hE9 : h_E D7 D9 := h_E_set eD9 (by decide)
  refine hw_1 (fun k => x_aload_n dX63_init_12 rfl k) ?_
  refine hw_1 (fun k => x_bipush dX63_init_13 (by decide) k) ?_
  replace h := ga_let_some h; obtain ⟨z15, ez15, h⟩ := h
  replace h := ga_let_some h; obtain ⟨D15, eD15, h⟩ := h
  refine hy_newa (t := 1) hP9 ez15 eD15 rfl rfl dX63_init_15 rfl (by decide) q1197 (by decide) (by decide) (fun hP15 hE15 hz15 hg15 => ?_)
  replace h := ga_let_some h; obtain ⟨D17, eD17, h⟩ := h
  refine hw_set eD17 (Int.le_trans (by decide) (hkge_58 (h_kx hE15 (h_kx hE9 hc9_0 (by decide)) (by decide)))) (by decide) (fun k => x_putfF dX63_init_17 fl_X63_15 rfl rfl (h_kx hE15 (h_kx hE9 hc9_0 (by decide)) (by decide)) (hkge_58 (h_kx hE15 (h_kx hE9 hc9_0 (by decide)) (by decide))) trivial k) ?_
  have hP17 : h_P D17 := hP15.set eD17 (hkge_58 (h_kx hE15 (h_kx hE9 hc9_0 (by decide)) (by decide))) (by decide) (hPn (h_kx hE15 (h_kx hE9 hc9_0 (by decide)) (by decide)) rfl)
  have hE17 : h_E D15 D17 := h_E_set eD17 (by decide)
  refine hw_1 (fun k => x_aload_n dX63_init_20 rfl k) ?_
  refine hw_1 (fun k => x_bipush dX63_init_21 (by decide) k) ?_
  replace h := ga_let_some h; obtain ⟨z23, ez23, h⟩ := h
  replace h := ga_let_some h; obtain ⟨D23, eD23, h⟩ := h
  refine hy_newa (t := 1) hP17 ez23 eD23 rfl rfl dX63_init_23 rfl (by decide) q1197 (by decide) (by decide) (fun hP23 hE23 hz23 hg23 => ?_)
  replace h := ga_let_some h; obtain ⟨D25, eD25, h⟩ := h
  refine hw_set eD25 (Int.le_trans (by decide) (hkge_58 (h_kx hE23 (h_kx hE17 (h_kx hE15 (h_kx hE9 hc9_0 (by decide)) (by decide)) (by decide)) (by decide)))) (by decide) (fun k => x_putfF dX63_init_25 fl_X63_18 rfl rfl (h_kx hE23 (h_kx hE17 (h_kx hE15 (h_kx hE9 hc9_0 (by decide)) (by decide)) (by decide)) (by decide)) (hkge_58 (h_kx hE23 (h_kx hE17 (h_kx hE15 (h_kx hE9 hc9_0 (by decide)) (by decide)) (by decide)) (by decide))) trivial k) ?_
  have hP25 : h_P D25 := hP23.set eD25 (hkge_58 (h_kx hE23 (h_kx hE17 (h_kx hE15 (h_kx hE9 hc9_0 (by decide)) (by decide)) (by decide)) (by decide))) (by decide) (hPn (h_kx hE23 (h_kx hE17 (h_kx hE15 (h_kx hE9 hc9_0 (by decide)) (by decide)) (by decide)) (by decide)) rfl)
  have hE25 : h_E D23 D25 := h_E_set eD25 (by decide)
  refine hw_1 (fun k => x_aload_n dX63_init_28 rfl k) ?_
  refine hw_1 (fun k => x_bipush dX63_init_29 (by decide) k) ?_
  replace h := ga_let_some h; obtain ⟨z31, ez31, h⟩ := h
  replace h := ga_let_some h; obtain ⟨D31, eD31, h⟩ := h
  refine hy_newa (t := 1) hP25 ez31 eD31 rfl rfl dX63_init_31 rfl (by decide) q1197 (by decide) (by decide) (fun hP31 hE31 hz31 hg31 => ?_)
  replace h := ga_let_some h; obtain ⟨D33, eD33, h⟩ := h
  refine hw_set eD33 (Int.le_trans (by decide) (hkge_58 (h_kx hE31 (h_kx hE25 (h_kx hE23 (h_kx hE17 (h_kx hE15 (h_kx hE9 hc9_0 (by decide)) (by decide)) (by decide)) (by decide)) (by decide)) (by decide)))) (by decide) (fun k => x_putfF dX63_init_33 fl_X63_21 rfl rfl (h_kx hE31 (h_kx hE25 (h_kx hE23 (h_kx hE17 (h_kx hE15 (h_kx hE9 hc9_0 (by decide)) (by decide)) (by decide)) (by decide)) (by decide)) (by decide)) (hkge_58 (h_kx hE31 (h_kx hE25 (h_kx hE23 (h_kx hE17 (h_kx hE15 (h_kx hE9 hc9_0 (by decide)) (by decide)) (by decide)) (by decide)) (by decide)) (by decide))) trivial k) ?_
  have hP33 : h_P D33 := hP31.set eD33 (hkge_58 (h_kx hE31 (h_kx hE25 (h_kx hE23 (h_kx hE17 (h_kx hE15 (h_kx hE9 hc9_0 (by decide)) (by decide)) (by decide)) (by decide)) (by decide)) (by decide))) (by decide) (hPn (h_kx hE31 (h_kx hE25 (h_kx hE23 (h_kx hE17 (h_kx hE15 (h_kx hE9 hc9_0 (by decide)) (by decide)) (by decide)) (by decide)) (by decide)) (by decide)) rfl)
  have hE33 : h_E D31 D33 := h_E_set eD33 (by decide)
  refine hw_1 (fun k => x_aload_n dX63_init_36 rfl k) ?_
  refine hw_1 (fun k => x_iload_n dX63_init_37 rfl k) ?_
  replace h := ga_let_some h; obtain ⟨D38, eD38, h⟩ := h
  refine hw_set eD38 (Int.le_trans (by decide) (hkge_58 (h_kx hE33 (h_kx hE31 (h_kx hE25 (h_kx hE23 (h_kx hE17 (h_kx hE15 (h_kx hE9 hc9_0 (by decide)) (by decide)) (by decide)) (by decide)) (by decide)) (by decide)) (by decide)))) (by decide) (fun k => x_putfF dX63_init_38 fl_X63_24 rfl rfl (h_kx hE33 (h_kx hE31 (h_kx hE25 (h_kx hE23 (h_kx hE17 (h_kx hE15 (h_kx hE9 hc9_0 (by decide)) (by decide)) (by decide)) (by decide)) (by decide)) (by decide)) (by decide)) (hkge_58 (h_kx hE33 (h_kx hE31 (h_kx hE25 (h_kx hE23 (h_kx hE17 (h_kx hE15 (h_kx hE9 hc9_0 (by decide)) (by decide)) (by decide)) (by decide)) (by decide)) (by decide)) (by decide))) trivial k) ?_
  have hP38 : h_P D38 := hP33.set eD38 (hkge_58 (h_kx hE33 (h_kx hE31 (h_kx hE25 (h_kx hE23 (h_kx hE17 (h_kx hE15 (h_kx hE9 hc9_0 (by decide)) (by decide)) (by decide)) (by decide)) (by decide)) (by decide)) (by decide))) (by decide) (hPn (h_kx hE33 (h_kx hE31 (h_kx hE25 (h_kx hE23 (h_kx hE17 (h_kx hE15 (h_kx hE9 hc9_0 (by decide)) (by decide)) (by decide)) (by decide)) (by decide)) (by decide)) (by decide)) rfl)
  have hE38 : h_E D33 D38 := h_E_set eD38 (by decide)
  refine hw_1 (fun k => x_aload_n dX63_init_41 rfl k) ?_
  refine hw_1 (fun k => x_getf (v := D38 x0 1) dX63_init_42 fl_X63_9 (h_kx hE38 (h_kx hE33 (h_kx hE31 (h_kx hE25 (h_kx hE23 (h_kx hE17 (h_kx hE15 (h_kx hE9 hc9_0 (by decide)) (by decide)) (by decide)) (by decide)) (by decide)) (by decide)) (by decide)) (by decide)) rfl k) ?_
  refine hw_1 (fun k => x_iconst dX63_init_45 (by decide) k) ?_
  refine hw_1 (fun k => x_iload_n dX63_init_46 rfl k) ?_
  refine hw_1 (fun k => x_i2l dX63_init_47 rfl k) ?_
  replace h := ga_ck_some h; obtain ⟨hc48_1, h⟩ := h
  replace h := ga_ck_some h; obtain ⟨hc48_2, h⟩ := h
  replace h := ga_ck_some h; obtain ⟨hc48_3, h⟩ := h
  replace h := ga_let_some h; obtain ⟨D48, eD48, h⟩ := h
  refine hw_set eD48 (Int.le_trans (by decide) hc48_2) hc48_3.1 (fun k => x_last dX63_init_48 (hk_p hc48_1) hc48_2 hc48_3.1 hc48_3.2 k) ?_
  have hP48 : h_P D48 := hP38.set eD48 hc48_2 hc48_3.1 (hPn (hk_p hc48_1) rfl)
  have hE48 : h_E D38 D48 := h_E_set eD48 hc48_3.1
  obtain ⟨rfl, rfl⟩ := ga_end h
  exact hw_ret hP48 (x_vret dX63_init_49 rfl hq)
theorem h_X63_set_ok {G : aw_G} {D D' : ga_D} {r : Int} {x0 x1 x2 : Int} (hP : h_P D) (h : h_X63_set x0 x1 x2 D = some (r, D')) : aw_HR yX63_set cX63_set 4 none 0 G [(2, x0), (0, x1), (1, x2)] D none D' := by
  unfold h_X63_set at h
  refine hw_body (own := "WasteHouse$TicketChain$Ticket") (ini := false) (ls := [(0, (2, x0)), (1, (0, x1)), (2, (1, x2))]) rfl rfl (fun h => by cases h) (Nat.le_of_ble_eq_true rfl) rfl fun Q hq => ?_
  refine hw_1 (fun k => x_aload_n dX63_set_0 rfl k) ?_
  replace h := ga_ck_some h; obtain ⟨hc1_0, h⟩ := h
  refine hw_1 (fun k => x_getf (v := D x0 1) dX63_set_1 fl_X63_9 hc1_0 rfl k) ?_
  refine hw_1 (fun k => x_iload_n dX63_set_4 rfl k) ?_
  refine hw_1 (fun k => x_lload_n dX63_set_5 rfl k) ?_
  replace h := ga_ck_some h; obtain ⟨hc6_1, h⟩ := h
  replace h := ga_ck_some h; obtain ⟨hc6_2, h⟩ := h
  replace h := ga_ck_some h; obtain ⟨hc6_3, h⟩ := h
  replace h := ga_let_some h; obtain ⟨D6, eD6, h⟩ := h
  refine hw_set eD6 (Int.le_trans (by decide) hc6_2) hc6_3.1 (fun k => x_last dX63_set_6 (hk_p hc6_1) hc6_2 hc6_3.1 hc6_3.2 k) ?_
  have hP6 : h_P D6 := hP.set eD6 hc6_2 hc6_3.1 (hPn (hk_p hc6_1) rfl)
  have hE6 : h_E D D6 := h_E_set eD6 hc6_3.1
  obtain ⟨rfl, rfl⟩ := ga_end h
  exact hw_ret hP6 (x_vret dX63_set_7 rfl hq)
theorem h_X6_four_l3_ok {G : aw_G} {M0 : aw_M} {D' : ga_D} {Q : Option aw_V → aw_M → Prop} {r : Int} (hq : Q none (hM D')) {k33 : ga_D → ga_S} (hk33 : ∀ (D : ga_D), h_P D → k33 D = some (r, D') → aw_HW G "WasteHouse$TicketChain$Writer" cX6_four none 3 0 false M0 Q aw_no D' (hn D') (hsl D') 33 [] [] D) : ∀ {n : Nat} {x1 x2 : Int} {D : ga_D}, h_P D → h_X6_four_l3 n x1 x2 D k33 = some (r, D') → aw_HW G "WasteHouse$TicketChain$Writer" cX6_four none 3 0 false M0 Q aw_no D' (hn D') (hsl D') 3 [(0, (2, 4106)), (1, (0, x1)), (2, (0, x2))] [] D := by
  intro n
  induction n with
  | zero => intro x1 x2 D hP h; exact absurd (h : (none : ga_S) = some (r, D')) (by intro h; cases h)
  | succ n ih =>
    intro x1 x2 D hP h
    have ih : ∀ (x1 x2 : Int) (D : ga_D), h_P D → h_X6_four_l3 n x1 x2 D k33 = some (r, D') → aw_HW G "WasteHouse$TicketChain$Writer" cX6_four none 3 0 false M0 Q aw_no D' (hn D') (hsl D') 3 [(0, (2, 4106)), (1, (0, x1)), (2, (0, x2))] [] D := fun x1 x2 D hP h => ih hP h
    replace h : (if x2 < 0 then (k33 D) else (ga_let (ga_set D 4106 1 (aw_w32 ((D 4106 1) + 1))) (fun D19 => ga_ck ((hk D19 (D 4106 0)).1 = 1002) (ga_ck (4096 ≤ D 4106 0) (ga_ck (0 ≤ D 4106 1 ∧ D 4106 1 < (hk D19 (D 4106 0)).2 ∧ (-128) ≤ aw_i2b (aw_shr x1 x2) ∧ aw_i2b (aw_shr x1 x2) < 128) (ga_let (ga_set D19 (D 4106 0) (D 4106 1) (aw_i2b (aw_shr x1 x2))) (fun D26 => ga_let (aw_w32 (x2 + (-8))) (fun v27 => h_X6_four_l3 n x1 v27 D26 k33))))))) : ga_S) = some (r, D') := h
    refine hw_1 (fun k => x_iload_n dX6_four_3 rfl k) ?_
    by_cases c4 : x2 < 0
    · rw [if_pos c4] at h
      refine hw_1 (fun k => x_if_lt (tgt := 33) dX6_four_4 (by decide) (fun _ => k) (fun z => absurd c4 z)) ?_
      refine hw_locs [] (ls' := []) rfl ?_
      exact hk33 _ hP h
    · rw [if_neg c4] at h
      refine hw_1 (fun k => x_if_lt (tgt := 33) dX6_four_4 (by decide) (fun z => absurd z c4) (fun _ => k)) ?_
      refine hw_1 (fun k => x_aload_n dX6_four_7 rfl k) ?_
      refine hw_1 (fun k => x_getf (v := D 4106 0) dX6_four_8 fl_X6_7 (hkS (D := D) (show ga_K 4106 = (5, 0) from by decide +kernel) (by decide)) rfl k) ?_
      refine hw_1 (fun k => x_aload_n dX6_four_11 rfl k) ?_
      refine hw_1 (fun k => x_dup dX6_four_12 rfl k) ?_
      refine hw_1 (fun k => x_getf (v := D 4106 1) dX6_four_13 fl_X6_13 (hkS (D := D) (show ga_K 4106 = (5, 0) from by decide +kernel) (by decide)) rfl k) ?_
      refine hw_1 (fun k => x_dup_x1 dX6_four_16 rfl rfl k) ?_
      refine hw_1 (fun k => x_iconst dX6_four_17 (by decide) k) ?_
      refine hw_1 (fun k => x_iadd dX6_four_18 rfl k) ?_
      replace h := ga_let_some h; obtain ⟨D19, eD19, h⟩ := h
      refine hw_set eD19 (by decide) (by decide) (fun k => x_putf dX6_four_19 fl_X6_13 rfl (hkS (D := D) (show ga_K 4106 = (5, 0) from by decide +kernel) (by decide)) (by decide) trivial k) ?_
      have hP19 : h_P D19 := hP.set eD19 (by decide) (by decide) (hPn (hkS (D := D) (show ga_K 4106 = (5, 0) from by decide +kernel) (by decide)) rfl)
      have hE19 : h_E D D19 := h_E_set eD19 (by decide)
      refine hw_1 (fun k => x_iload_n dX6_four_22 rfl k) ?_
      refine hw_1 (fun k => x_iload_n dX6_four_23 rfl k) ?_
      refine hw_1 (fun k => x_ishr dX6_four_24 rfl k) ?_
      refine hw_1 (fun k => x_i2b dX6_four_25 rfl k) ?_
      replace h := ga_ck_some h; obtain ⟨hc26_0, h⟩ := h
      replace h := ga_ck_some h; obtain ⟨hc26_1, h⟩ := h
      replace h := ga_ck_some h; obtain ⟨hc26_2, h⟩ := h
      replace h := ga_let_some h; obtain ⟨D26, eD26, h⟩ := h
      refine hw_set eD26 (Int.le_trans (by decide) hc26_1) hc26_2.1 (fun k => x_bast dX6_four_26 (hk_p hc26_0) hc26_1 hc26_2.1 hc26_2.2.1 hc26_2.2.2 k) ?_
      have hP26 : h_P D26 := hP19.set eD26 hc26_1 hc26_2.1 (hPn (hk_p hc26_0) rfl)
      have hE26 : h_E D19 D26 := h_E_set eD26 hc26_2.1
      replace h := ga_let_some h; obtain ⟨v27, ev27, h⟩ := h
      refine hw_1 (fun k => x_iinc (ls' := [(2, (0, v27)), (0, (2, 4106)), (1, (0, x1))]) dX6_four_27 rfl ev27.symm (by decide) rfl k) ?_
      refine hw_1 (fun k => x_goto (tgt := 3) dX6_four_30 (by decide) k) ?_
      refine hw_locs [1, 2, 0] (ls' := [(0, (2, 4106)), (1, (0, x1)), (2, (0, v27))]) rfl ?_
      exact ih _ _ _ hP26 h
theorem h_X6_four_ok {G : aw_G} {D D' : ga_D} {r : Int} {x1 : Int} (hP : h_P D) (h : h_X6_four x1 D = some (r, D')) : aw_HR yX6_four cX6_four 3 none 0 G [(2, 4106), (0, x1)] D none D' := by
  unfold h_X6_four at h
  refine hw_body (own := "WasteHouse$TicketChain$Writer") (ini := false) (ls := [(0, (2, 4106)), (1, (0, x1))]) rfl rfl (fun h => by cases h) (Nat.le_of_ble_eq_true rfl) rfl fun Q hq => ?_
  refine hw_1 (fun k => x_bipush dX6_four_0 (by decide) k) ?_
  refine hw_1 (fun k => x_istore_n (ls' := [(2, (0, 24)), (0, (2, 4106)), (1, (0, x1))]) dX6_four_2 (by decide) rfl k) ?_
  refine hw_locs [1, 2, 0] (ls' := [(0, (2, 4106)), (1, (0, x1)), (2, (0, 24))]) rfl ?_
  refine h_X6_four_l3_ok hq (fun D33 hP h => ?_) hP h
  · obtain ⟨rfl, rfl⟩ := ga_end h
    exact hw_ret hP (x_vret dX6_four_33 rfl hq)
theorem h_X6_begin_ok {G : aw_G} {D D' : ga_D} {r : Int} {x1 x2 x3 : Int} (hP : h_P D) (h : h_X6_begin x1 x2 x3 D = some (r, D')) : aw_HR yX6_begin cX6_begin 4 none 1 G [(2, 4106), (2, x1), (0, x2), (0, x3)] D none D' := by
  unfold h_X6_begin at h
  refine hw_body (own := "WasteHouse$TicketChain$Writer") (ini := false) (ls := [(0, (2, 4106)), (1, (2, x1)), (2, (0, x2)), (3, (0, x3))]) rfl rfl (fun h => by cases h) (Nat.le_of_ble_eq_true rfl) rfl fun Q hq => ?_
  refine hw_1 (fun k => x_aload_n dX6_begin_0 rfl k) ?_
  refine hw_1 (fun k => x_aload_n dX6_begin_1 rfl k) ?_
  replace h := ga_let_some h; obtain ⟨D2, eD2, h⟩ := h
  refine hw_set eD2 (by decide) (by decide) (fun k => x_putf dX6_begin_2 fl_X6_7 rfl (hkS (D := D) (show ga_K 4106 = (5, 0) from by decide +kernel) (by decide)) (by decide) trivial k) ?_
  have hP2 : h_P D2 := hP.set eD2 (by decide) (by decide) (hPn (hkS (D := D) (show ga_K 4106 = (5, 0) from by decide +kernel) (by decide)) rfl)
  have hE2 : h_E D D2 := h_E_set eD2 (by decide)
  refine hw_1 (fun k => x_aload_n dX6_begin_5 rfl k) ?_
  refine hw_1 (fun k => x_iconst dX6_begin_6 (by decide) k) ?_
  replace h := ga_let_some h; obtain ⟨D7, eD7, h⟩ := h
  refine hw_set eD7 (by decide) (by decide) (fun k => x_putf dX6_begin_7 fl_X6_13 rfl (hkS (D := D2) (show ga_K 4106 = (5, 0) from by decide +kernel) (by decide)) (by decide) trivial k) ?_
  have hP7 : h_P D7 := hP2.set eD7 (by decide) (by decide) (hPn (hkS (D := D2) (show ga_K 4106 = (5, 0) from by decide +kernel) (by decide)) rfl)
  have hE7 : h_E D2 D7 := h_E_set eD7 (by decide)
  refine hw_1 (fun k => x_aload_n dX6_begin_10 rfl k) ?_
  refine hw_1 (fun k => x_getf (v := D7 4106 0) dX6_begin_11 fl_X6_7 (hkS (D := D7) (show ga_K 4106 = (5, 0) from by decide +kernel) (by decide)) rfl k) ?_
  refine hw_1 (fun k => x_aload_n dX6_begin_14 rfl k) ?_
  refine hw_1 (fun k => x_dup dX6_begin_15 rfl k) ?_
  refine hw_1 (fun k => x_getf (v := D7 4106 1) dX6_begin_16 fl_X6_13 (hkS (D := D7) (show ga_K 4106 = (5, 0) from by decide +kernel) (by decide)) rfl k) ?_
  refine hw_1 (fun k => x_dup_x1 dX6_begin_19 rfl rfl k) ?_
  refine hw_1 (fun k => x_iconst dX6_begin_20 (by decide) k) ?_
  refine hw_1 (fun k => x_iadd dX6_begin_21 rfl k) ?_
  replace h := ga_let_some h; obtain ⟨D22, eD22, h⟩ := h
  refine hw_set eD22 (by decide) (by decide) (fun k => x_putf dX6_begin_22 fl_X6_13 rfl (hkS (D := D7) (show ga_K 4106 = (5, 0) from by decide +kernel) (by decide)) (by decide) trivial k) ?_
  have hP22 : h_P D22 := hP7.set eD22 (by decide) (by decide) (hPn (hkS (D := D7) (show ga_K 4106 = (5, 0) from by decide +kernel) (by decide)) rfl)
  have hE22 : h_E D7 D22 := h_E_set eD22 (by decide)
  refine hw_1 (fun k => x_iload_n dX6_begin_25 rfl k) ?_
  refine hw_1 (fun k => x_i2b dX6_begin_26 rfl k) ?_
  replace h := ga_ck_some h; obtain ⟨hc27_0, h⟩ := h
  replace h := ga_ck_some h; obtain ⟨hc27_1, h⟩ := h
  replace h := ga_ck_some h; obtain ⟨hc27_2, h⟩ := h
  replace h := ga_let_some h; obtain ⟨D27, eD27, h⟩ := h
  refine hw_set eD27 (Int.le_trans (by decide) hc27_1) hc27_2.1 (fun k => x_bast dX6_begin_27 (hk_p hc27_0) hc27_1 hc27_2.1 hc27_2.2.1 hc27_2.2.2 k) ?_
  have hP27 : h_P D27 := hP22.set eD27 hc27_1 hc27_2.1 (hPn (hk_p hc27_0) rfl)
  have hE27 : h_E D22 D27 := h_E_set eD27 hc27_2.1
  refine hw_1 (fun k => x_aload_n dX6_begin_28 rfl k) ?_
  refine hw_1 (fun k => x_iload_n dX6_begin_29 rfl k) ?_
  replace h := ga_bind_some h; obtain ⟨r30, D30, g30, h⟩ := h
  have hR30 := (h_X6_four_ok (G := G) hP27 g30)
  obtain ⟨hP30, hE30, -⟩ := id hR30
  refine hw_call (rest := []) hR30 (fun hc hk9 => x_callV (as := [(0, x3)]) (rest := []) dX6_begin_30 hc (lw_V q5163 q5164 q5165 q398 q5166) (hkS (D := D27) (show ga_K 4106 = (5, 0) from by decide +kernel) (by decide)) rfl rfl (show _ ∧ _ ∧ _ ∧ _ = some 1 from by decide +kernel) (by decide) (by decide) rfl (Nat.le_of_ble_eq_true rfl) hk9 aw_nox) ?_
  obtain ⟨rfl, rfl⟩ := ga_end h
  exact hw_ret hP30 (x_vret dX6_begin_33 rfl hq)
theorem h_X3_begin_ok {G : aw_G} {D D' : ga_D} {r : Int} {x1 x2 : Int} (hP : h_P D) (h : h_X3_begin x1 x2 D = some (r, D')) : aw_HR yX3_begin cX3_begin 4 (some (.object "WasteHouse$TicketChain$Writer")) 13 G [(2, 4098), (0, x1), (0, x2)] D (some (2, r)) D' := by
  unfold h_X3_begin at h
  refine hw_body (own := "WasteHouse$TicketChain$Chain") (ini := false) (ls := [(0, (2, 4098)), (1, (0, x1)), (2, (0, x2))]) rfl rfl (fun h => by cases h) (Nat.le_of_ble_eq_true rfl) rfl fun Q hq => ?_
  refine hw_1 (fun k => x_bipush dX3_begin_0 (by decide) k) ?_
  replace h := ga_let_some h; obtain ⟨z2, ez2, h⟩ := h
  replace h := ga_let_some h; obtain ⟨D2, eD2, h⟩ := h
  refine hy_newa (t := 2) hP ez2 eD2 rfl rfl dX3_begin_2 rfl (by decide) q578 (by decide) (by decide) (fun hP2 hE2 hz2 hg2 => ?_)
  refine hw_1 (fun k => x_astore_n (ls' := [(3, (2, z2)), (0, (2, 4098)), (1, (0, x1)), (2, (0, x2))]) dX3_begin_4 (by decide) rfl k) ?_
  refine hw_1 (fun k => x_aload_n dX3_begin_5 rfl k) ?_
  refine hw_1 (fun k => x_getf (v := 4107) dX3_begin_6 fl_X3_33 (hkS (D := D2) (show ga_K 4098 = (2, 0) from by decide +kernel) (by decide)) (hP2.1 4098 2 4107 (by decide +kernel)) k) ?_
  refine hw_1 (fun k => x_aload_n dX3_begin_9 rfl k) ?_
  replace h := ga_bind_some h; obtain ⟨r10, D10, g10, h⟩ := h
  have hR10 := (h_J2_add_ok (G := G) hP2 g10)
  obtain ⟨hP10, hE10, -⟩ := id hR10
  refine hw_call (rest := []) hR10 (fun hc hk9 => x_callV (as := [(2, z2)]) (rest := []) dX3_begin_10 hc (lw_V q5158 q1941 q1942 q401 q1943) (hkS (D := D2) (show ga_K 4107 = (60, 0) from by decide +kernel) (by decide)) rfl rfl (show _ ∧ _ ∧ _ ∧ _ = some 1 from by decide +kernel) (by decide) (by decide) rfl (Nat.le_of_ble_eq_true rfl) hk9 aw_nox) ?_
  refine hw_1 (fun k => x_pop dX3_begin_13 rfl k) ?_
  refine hw_1 (fun k => x_aload_n dX3_begin_14 rfl k) ?_
  refine hw_1 (fun k => x_getf (v := 4106) dX3_begin_15 fl_X3_26 (hkS (D := D10) (show ga_K 4098 = (2, 0) from by decide +kernel) (by decide)) (hP10.1 4098 1 4106 (by decide +kernel)) k) ?_
  refine hw_1 (fun k => x_aload_n dX3_begin_18 rfl k) ?_
  refine hw_1 (fun k => x_iload_n dX3_begin_19 rfl k) ?_
  refine hw_1 (fun k => x_iload_n dX3_begin_20 rfl k) ?_
  replace h := ga_bind_some h; obtain ⟨r21, D21, g21, h⟩ := h
  have hR21 := (h_X6_begin_ok (G := G) hP10 g21)
  obtain ⟨hP21, hE21, -⟩ := id hR21
  refine hw_call (rest := []) hR21 (fun hc hk9 => x_callV (as := [(2, z2), (0, x1), (0, x2)]) (rest := []) dX3_begin_21 hc (lw_V q5159 q5160 q5161 q398 q5162) (hkS (D := D10) (show ga_K 4106 = (5, 0) from by decide +kernel) (by decide)) rfl rfl (show _ ∧ _ ∧ _ ∧ _ = some 3 from by decide +kernel) (by decide) (by decide) rfl (Nat.le_of_ble_eq_true rfl) hk9 aw_nox) ?_
  refine hw_1 (fun k => x_aload_n dX3_begin_24 rfl k) ?_
  refine hw_1 (fun k => x_getf (v := 4106) dX3_begin_25 fl_X3_26 (hkS (D := D21) (show ga_K 4098 = (2, 0) from by decide +kernel) (by decide)) (hP21.1 4098 1 4106 (by decide +kernel)) k) ?_
  obtain ⟨rfl, rfl⟩ := ga_end h
  exact hw_ret hP21 (x_aret dX3_begin_28 rfl (by first | exact Or.inl ⟨_, rfl⟩ | exact Or.inr ⟨_, rfl⟩) hq)
theorem h_X63_get_ok {G : aw_G} {D D' : ga_D} {r : Int} {x0 x1 : Int} (hP : h_P D) (h : h_X63_get x0 x1 D = some (r, D')) : aw_HR yX63_get cX63_get 2 (some (.long)) 0 G [(2, x0), (0, x1)] D (some (1, r)) D' := by
  unfold h_X63_get at h
  refine hw_body (own := "WasteHouse$TicketChain$Ticket") (ini := false) (ls := [(0, (2, x0)), (1, (0, x1))]) rfl rfl (fun h => by cases h) (Nat.le_of_ble_eq_true rfl) rfl fun Q hq => ?_
  refine hw_1 (fun k => x_iload_n dX63_get_0 rfl k) ?_
  refine hw_1 (fun k => x_iconst dX63_get_1 (by decide) k) ?_
  by_cases c2 : x1 ≠ 5
  · rw [if_pos c2] at h
    refine hw_1 (fun k => x_icmp_ne (tgt := 21) dX63_get_2 (by decide) (fun _ => k) (fun z => absurd c2 z)) ?_
    refine hw_1 (fun k => x_aload_n dX63_get_21 rfl k) ?_
    replace h := ga_ck_some h; obtain ⟨hc22_0, h⟩ := h
    refine hw_1 (fun k => x_getf (v := D x0 1) dX63_get_22 fl_X63_9 hc22_0 rfl k) ?_
    refine hw_1 (fun k => x_iload_n dX63_get_25 rfl k) ?_
    replace h := ga_ck_some h; obtain ⟨hc26_1, h⟩ := h
    replace h := ga_ck_some h; obtain ⟨hc26_2, h⟩ := h
    refine hw_1 (fun k => x_lald (v := D (D x0 1) x1) dX63_get_26 (hk_p hc26_1) hc26_2.1 hc26_2.2 rfl k) ?_
    obtain ⟨rfl, rfl⟩ := ga_end h
    exact hw_ret hP (x_lret dX63_get_27 rfl hq)
  · rw [if_neg c2] at h
    refine hw_1 (fun k => x_icmp_ne (tgt := 21) dX63_get_2 (by decide) (fun z => absurd z c2) (fun _ => k)) ?_
    refine hw_1 (fun k => x_aload_n dX63_get_5 rfl k) ?_
    replace h := ga_ck_some h; obtain ⟨hc6_0, h⟩ := h
    refine hw_1 (fun k => x_getf (v := D x0 1) dX63_get_6 fl_X63_9 hc6_0 rfl k) ?_
    refine hw_1 (fun k => x_iconst dX63_get_9 (by decide) k) ?_
    replace h := ga_ck_some h; obtain ⟨hc10_1, h⟩ := h
    replace h := ga_ck_some h; obtain ⟨hc10_2, h⟩ := h
    refine hw_1 (fun k => x_lald (v := D (D x0 1) 3) dX63_get_10 (hk_p hc10_1) hc10_2.1 hc10_2.2 rfl k) ?_
    refine hw_1 (fun k => x_aload_n dX63_get_11 rfl k) ?_
    refine hw_1 (fun k => x_getf (v := D x0 1) dX63_get_12 fl_X63_9 hc6_0 rfl k) ?_
    refine hw_1 (fun k => x_iconst dX63_get_15 (by decide) k) ?_
    replace h := ga_ck_some h; obtain ⟨hc16_3, h⟩ := h
    refine hw_1 (fun k => x_lald (v := D (D x0 1) 4) dX63_get_16 (hk_p hc10_1) hc16_3.1 hc16_3.2 rfl k) ?_
    refine hw_1 (fun k => x_lsub dX63_get_17 rfl k) ?_
    refine hw_1 (fun k => x_goto (tgt := 27) dX63_get_18 (by decide) k) ?_
    obtain ⟨rfl, rfl⟩ := ga_end h
    exact hw_ret hP (x_lret dX63_get_27 rfl hq)
theorem h_X6_eight_ok {G : aw_G} {D D' : ga_D} {r : Int} {x1 : Int} (hP : h_P D) (h : h_X6_eight x1 D = some (r, D')) : aw_HR yX6_eight cX6_eight 3 none 1 G [(2, 4106), (1, x1)] D none D' := by
  unfold h_X6_eight at h
  refine hw_body (own := "WasteHouse$TicketChain$Writer") (ini := false) (ls := [(0, (2, 4106)), (1, (1, x1))]) rfl rfl (fun h => by cases h) (Nat.le_of_ble_eq_true rfl) rfl fun Q hq => ?_
  refine hw_1 (fun k => x_aload_n dX6_eight_0 rfl k) ?_
  refine hw_1 (fun k => x_lload_n dX6_eight_1 rfl k) ?_
  refine hw_1 (fun k => x_bipush dX6_eight_2 (by decide) k) ?_
  refine hw_1 (fun k => x_lshr dX6_eight_4 rfl k) ?_
  refine hw_1 (fun k => x_l2i dX6_eight_5 rfl k) ?_
  replace h := ga_bind_some h; obtain ⟨r6, D6, g6, h⟩ := h
  have hR6 := (h_X6_four_ok (G := G) hP g6)
  obtain ⟨hP6, hE6, -⟩ := id hR6
  refine hw_call (rest := []) hR6 (fun hc hk9 => x_callV (as := [(0, aw_w32 (aw_lshr x1 32))]) (rest := []) dX6_eight_6 hc (lw_V q5163 q5164 q5165 q398 q5166) (hkS (D := D) (show ga_K 4106 = (5, 0) from by decide +kernel) (by decide)) rfl rfl (show _ ∧ _ ∧ _ ∧ _ = some 1 from by decide +kernel) (by decide) (by decide) rfl (Nat.le_of_ble_eq_true rfl) hk9 aw_nox) ?_
  refine hw_1 (fun k => x_aload_n dX6_eight_9 rfl k) ?_
  refine hw_1 (fun k => x_lload_n dX6_eight_10 rfl k) ?_
  refine hw_1 (fun k => x_l2i dX6_eight_11 rfl k) ?_
  replace h := ga_bind_some h; obtain ⟨r12, D12, g12, h⟩ := h
  have hR12 := (h_X6_four_ok (G := G) hP6 g12)
  obtain ⟨hP12, hE12, -⟩ := id hR12
  refine hw_call (rest := []) hR12 (fun hc hk9 => x_callV (as := [(0, aw_w32 x1)]) (rest := []) dX6_eight_12 hc (lw_V q5163 q5164 q5165 q398 q5166) (hkS (D := D6) (show ga_K 4106 = (5, 0) from by decide +kernel) (by decide)) rfl rfl (show _ ∧ _ ∧ _ ∧ _ = some 1 from by decide +kernel) (by decide) (by decide) rfl (Nat.le_of_ble_eq_true rfl) hk9 aw_nox) ?_
  obtain ⟨rfl, rfl⟩ := ga_end h
  exact hw_ret hP12 (x_vret dX6_eight_15 rfl hq)
theorem h_X4_begin_ok {G : aw_G} {D D' : ga_D} {r : Int} (hP : h_P D) (h : h_X4_begin D = some (r, D')) : aw_HR yX4_begin cX4_begin 1 none 2 G [(2, 4099)] D none D' := by
  unfold h_X4_begin at h
  refine hw_body (own := "WasteHouse$TicketChain$Sum") (ini := false) (ls := [(0, (2, 4099))]) rfl rfl (fun h => by cases h) (Nat.le_of_ble_eq_true rfl) rfl fun Q hq => ?_
  refine hw_1 (fun k => x_aload_n dX4_begin_0 rfl k) ?_
  refine hw_1 (fun k => x_getf (v := 4100) dX4_begin_1 fl_X4_22 (hkS (D := D) (show ga_K 4099 = (3, 0) from by decide +kernel) (by decide)) (hP.1 4099 0 4100 (by decide +kernel)) k) ?_
  refine hw_1 (fun k => x_getf (v := 4102) dX4_begin_4 fl_X4_26 (hkS (D := D) (show ga_K 4100 = (4, 0) from by decide +kernel) (by decide)) (hP.1 4100 1 4102 (by decide +kernel)) k) ?_
  refine hw_1 (fun k => x_iconst dX4_begin_7 (by decide) k) ?_
  refine hw_1 (fun k => x_aload_n dX4_begin_8 rfl k) ?_
  refine hw_1 (fun k => x_getf (v := 4103) dX4_begin_9 fl_X4_9 (hkS (D := D) (show ga_K 4099 = (3, 0) from by decide +kernel) (by decide)) (hP.1 4099 1 4103 (by decide +kernel)) k) ?_
  refine hw_1 (fun k => x_iconst dX4_begin_12 (by decide) k) ?_
  refine hw_1 (fun k => x_bipush dX4_begin_13 (by decide) k) ?_
  replace h := ga_ck_some h; obtain ⟨hc15_0, h⟩ := h
  replace h := ga_let_some h; obtain ⟨D15, eD15, h⟩ := h
  refine hw_cp eD15 (by decide) hc15_0.2.1 (fun k => x_copy (t := 0) rfl dX4_begin_15 q5190 q2070 q2069 q444 (hkS (D := D) (show ga_K 4102 = (1000, 8) from by decide +kernel) (by decide)) (hkS (D := D) (show ga_K 4103 = (1000, 8) from by decide +kernel) (by decide)) rfl rfl (by decide) hc15_0 (by decide) (Nat.le_of_ble_eq_true rfl) k) ?_
  have hP15 : h_P D15 := hP.cp eD15 (by decide) hc15_0.2.1 (fun _ => hPn (hkS (D := D) (show ga_K 4103 = (1000, 8) from by decide +kernel) (by decide)) rfl)
  have hE15 : h_E D D15 := h_E_cp eD15 hc15_0.2.1
  refine hw_1 (fun k => x_aload_n dX4_begin_18 rfl k) ?_
  refine hw_1 (fun k => x_lconst (v := 0) dX4_begin_19 rfl k) ?_
  replace h := ga_let_some h; obtain ⟨D20, eD20, h⟩ := h
  refine hw_set eD20 (by decide) (by decide) (fun k => x_putf dX4_begin_20 fl_X4_37 rfl (hkS (D := D15) (show ga_K 4099 = (3, 0) from by decide +kernel) (by decide)) (by decide) trivial k) ?_
  have hP20 : h_P D20 := hP15.set eD20 (by decide) (by decide) (hPn (hkS (D := D15) (show ga_K 4099 = (3, 0) from by decide +kernel) (by decide)) rfl)
  have hE20 : h_E D15 D20 := h_E_set eD20 (by decide)
  obtain ⟨rfl, rfl⟩ := ga_end h
  exact hw_ret hP20 (x_vret dX4_begin_23 rfl hq)
theorem h_X4_fold_l2_ok {G : aw_G} {M0 : aw_M} {D' : ga_D} {Q : Option aw_V → aw_M → Prop} {r : Int} (hq : Q none (hM D')) {k82 : ga_D → ga_S} (hk82 : ∀ (D : ga_D), h_P D → k82 D = some (r, D') → aw_HW G "WasteHouse$TicketChain$Sum" cX4_fold none 13 1 false M0 Q aw_no D' (hn D') (hsl D') 82 [(0, (2, 4099))] [] D) : ∀ {n : Nat} {x1 : Int} {D : ga_D}, h_P D → h_X4_fold_l2 n x1 D k82 = some (r, D') → aw_HW G "WasteHouse$TicketChain$Sum" cX4_fold none 13 1 false M0 Q aw_no D' (hn D') (hsl D') 2 [(0, (2, 4099)), (1, (0, x1))] [] D := by
  intro n
  induction n with
  | zero => intro x1 D hP h; exact absurd (h : (none : ga_S) = some (r, D')) (by intro h; cases h)
  | succ n ih =>
    intro x1 D hP h
    have ih : ∀ (x1 : Int) (D : ga_D), h_P D → h_X4_fold_l2 n x1 D k82 = some (r, D') → aw_HW G "WasteHouse$TicketChain$Sum" cX4_fold none 13 1 false M0 Q aw_no D' (hn D') (hsl D') 2 [(0, (2, 4099)), (1, (0, x1))] [] D := fun x1 D hP h => ih hP h
    replace h : (if 16 ≤ x1 then (k82 D) else (ga_ck (0 ≤ aw_w32 (4 * x1) ∧ aw_w32 (4 * x1) < 64) (ga_ck (0 ≤ aw_w32 ((aw_w32 (4 * x1)) + 1) ∧ aw_w32 ((aw_w32 (4 * x1)) + 1) < 64) (ga_ck (0 ≤ aw_w32 ((aw_w32 (4 * x1)) + 2) ∧ aw_w32 ((aw_w32 (4 * x1)) + 2) < 64) (ga_ck (0 ≤ aw_w32 ((aw_w32 (4 * x1)) + 3) ∧ aw_w32 ((aw_w32 (4 * x1)) + 3) < 64) (ga_ck (0 ≤ x1 ∧ x1 < 64) (ga_let (ga_set D 4104 x1 (aw_or (aw_or (aw_or (aw_shl (D 4105 (aw_w32 (4 * x1))) 24) (aw_shl (aw_and (D 4105 (aw_w32 ((aw_w32 (4 * x1)) + 1))) 255) 16)) (aw_shl (aw_and (D 4105 (aw_w32 ((aw_w32 (4 * x1)) + 2))) 255) 8)) (aw_and (D 4105 (aw_w32 ((aw_w32 (4 * x1)) + 3))) 255))) (fun D75 => ga_let (aw_w32 (x1 + 1)) (fun v76 => h_X4_fold_l2 n v76 D75 k82)))))))) : ga_S) = some (r, D') := h
    refine hw_1 (fun k => x_iload_n dX4_fold_2 rfl k) ?_
    refine hw_1 (fun k => x_bipush dX4_fold_3 (by decide) k) ?_
    by_cases c5 : 16 ≤ x1
    · rw [if_pos c5] at h
      refine hw_1 (fun k => x_icmp_ge (tgt := 82) dX4_fold_5 (by decide) (fun _ => k) (fun z => absurd c5 z)) ?_
      refine hw_locs [0] (ls' := [(0, (2, 4099))]) rfl ?_
      exact hk82 _ hP h
    · rw [if_neg c5] at h
      refine hw_1 (fun k => x_icmp_ge (tgt := 82) dX4_fold_5 (by decide) (fun z => absurd z c5) (fun _ => k)) ?_
      refine hw_1 (fun k => x_aload_n dX4_fold_8 rfl k) ?_
      refine hw_1 (fun k => x_getf (v := 4104) dX4_fold_9 fl_X4_15 (hkS (D := D) (show ga_K 4099 = (3, 0) from by decide +kernel) (by decide)) (hP.1 4099 2 4104 (by decide +kernel)) k) ?_
      refine hw_1 (fun k => x_iload_n dX4_fold_12 rfl k) ?_
      refine hw_1 (fun k => x_aload_n dX4_fold_13 rfl k) ?_
      refine hw_1 (fun k => x_getf (v := 4105) dX4_fold_14 fl_X4_18 (hkS (D := D) (show ga_K 4099 = (3, 0) from by decide +kernel) (by decide)) (hP.1 4099 3 4105 (by decide +kernel)) k) ?_
      refine hw_1 (fun k => x_iconst dX4_fold_17 (by decide) k) ?_
      refine hw_1 (fun k => x_iload_n dX4_fold_18 rfl k) ?_
      refine hw_1 (fun k => x_imul dX4_fold_19 rfl k) ?_
      replace h := ga_ck_some h; obtain ⟨hc20_0, h⟩ := h
      refine hw_1 (fun k => x_bald (v := D 4105 (aw_w32 (4 * x1))) dX4_fold_20 (hkS (D := D) (show ga_K 4105 = (1002, 64) from by decide +kernel) (by decide)) hc20_0.1 hc20_0.2 rfl k) ?_
      refine hw_1 (fun k => x_bipush dX4_fold_21 (by decide) k) ?_
      refine hw_1 (fun k => x_ishl dX4_fold_23 rfl k) ?_
      refine hw_1 (fun k => x_aload_n dX4_fold_24 rfl k) ?_
      refine hw_1 (fun k => x_getf (v := 4105) dX4_fold_25 fl_X4_18 (hkS (D := D) (show ga_K 4099 = (3, 0) from by decide +kernel) (by decide)) (hP.1 4099 3 4105 (by decide +kernel)) k) ?_
      refine hw_1 (fun k => x_iconst dX4_fold_28 (by decide) k) ?_
      refine hw_1 (fun k => x_iload_n dX4_fold_29 rfl k) ?_
      refine hw_1 (fun k => x_imul dX4_fold_30 rfl k) ?_
      refine hw_1 (fun k => x_iconst dX4_fold_31 (by decide) k) ?_
      refine hw_1 (fun k => x_iadd dX4_fold_32 rfl k) ?_
      replace h := ga_ck_some h; obtain ⟨hc33_1, h⟩ := h
      refine hw_1 (fun k => x_bald (v := D 4105 (aw_w32 ((aw_w32 (4 * x1)) + 1))) dX4_fold_33 (hkS (D := D) (show ga_K 4105 = (1002, 64) from by decide +kernel) (by decide)) hc33_1.1 hc33_1.2 rfl k) ?_
      refine hw_1 (fun k => x_sipush dX4_fold_34 (by decide) k) ?_
      refine hw_1 (fun k => x_iand dX4_fold_37 rfl k) ?_
      refine hw_1 (fun k => x_bipush dX4_fold_38 (by decide) k) ?_
      refine hw_1 (fun k => x_ishl dX4_fold_40 rfl k) ?_
      refine hw_1 (fun k => x_ior dX4_fold_41 rfl k) ?_
      refine hw_1 (fun k => x_aload_n dX4_fold_42 rfl k) ?_
      refine hw_1 (fun k => x_getf (v := 4105) dX4_fold_43 fl_X4_18 (hkS (D := D) (show ga_K 4099 = (3, 0) from by decide +kernel) (by decide)) (hP.1 4099 3 4105 (by decide +kernel)) k) ?_
      refine hw_1 (fun k => x_iconst dX4_fold_46 (by decide) k) ?_
      refine hw_1 (fun k => x_iload_n dX4_fold_47 rfl k) ?_
      refine hw_1 (fun k => x_imul dX4_fold_48 rfl k) ?_
      refine hw_1 (fun k => x_iconst dX4_fold_49 (by decide) k) ?_
      refine hw_1 (fun k => x_iadd dX4_fold_50 rfl k) ?_
      replace h := ga_ck_some h; obtain ⟨hc51_2, h⟩ := h
      refine hw_1 (fun k => x_bald (v := D 4105 (aw_w32 ((aw_w32 (4 * x1)) + 2))) dX4_fold_51 (hkS (D := D) (show ga_K 4105 = (1002, 64) from by decide +kernel) (by decide)) hc51_2.1 hc51_2.2 rfl k) ?_
      refine hw_1 (fun k => x_sipush dX4_fold_52 (by decide) k) ?_
      refine hw_1 (fun k => x_iand dX4_fold_55 rfl k) ?_
      refine hw_1 (fun k => x_bipush dX4_fold_56 (by decide) k) ?_
      refine hw_1 (fun k => x_ishl dX4_fold_58 rfl k) ?_
      refine hw_1 (fun k => x_ior dX4_fold_59 rfl k) ?_
      refine hw_1 (fun k => x_aload_n dX4_fold_60 rfl k) ?_
      refine hw_1 (fun k => x_getf (v := 4105) dX4_fold_61 fl_X4_18 (hkS (D := D) (show ga_K 4099 = (3, 0) from by decide +kernel) (by decide)) (hP.1 4099 3 4105 (by decide +kernel)) k) ?_
      refine hw_1 (fun k => x_iconst dX4_fold_64 (by decide) k) ?_
      refine hw_1 (fun k => x_iload_n dX4_fold_65 rfl k) ?_
      refine hw_1 (fun k => x_imul dX4_fold_66 rfl k) ?_
      refine hw_1 (fun k => x_iconst dX4_fold_67 (by decide) k) ?_
      refine hw_1 (fun k => x_iadd dX4_fold_68 rfl k) ?_
      replace h := ga_ck_some h; obtain ⟨hc69_3, h⟩ := h
      refine hw_1 (fun k => x_bald (v := D 4105 (aw_w32 ((aw_w32 (4 * x1)) + 3))) dX4_fold_69 (hkS (D := D) (show ga_K 4105 = (1002, 64) from by decide +kernel) (by decide)) hc69_3.1 hc69_3.2 rfl k) ?_
      refine hw_1 (fun k => x_sipush dX4_fold_70 (by decide) k) ?_
      refine hw_1 (fun k => x_iand dX4_fold_73 rfl k) ?_
      refine hw_1 (fun k => x_ior dX4_fold_74 rfl k) ?_
      replace h := ga_ck_some h; obtain ⟨hc75_4, h⟩ := h
      replace h := ga_let_some h; obtain ⟨D75, eD75, h⟩ := h
      refine hw_set eD75 (by decide) hc75_4.1 (fun k => x_iast dX4_fold_75 (hkS (D := D) (show ga_K 4104 = (1000, 64) from by decide +kernel) (by decide)) (by decide) hc75_4.1 hc75_4.2 k) ?_
      have hP75 : h_P D75 := hP.set eD75 (by decide) hc75_4.1 (hPn (hkS (D := D) (show ga_K 4104 = (1000, 64) from by decide +kernel) (by decide)) rfl)
      have hE75 : h_E D D75 := h_E_set eD75 hc75_4.1
      replace h := ga_let_some h; obtain ⟨v76, ev76, h⟩ := h
      refine hw_1 (fun k => x_iinc (ls' := [(1, (0, v76)), (0, (2, 4099))]) dX4_fold_76 rfl ev76.symm (by decide) rfl k) ?_
      refine hw_1 (fun k => x_goto (tgt := 2) dX4_fold_79 (by decide) k) ?_
      refine hw_locs [1, 0] (ls' := [(0, (2, 4099)), (1, (0, v76))]) rfl ?_
      exact ih _ _ hP75 h
theorem h_X4_fold_l85_ok {G : aw_G} {M0 : aw_M} {D' : ga_D} {Q : Option aw_V → aw_M → Prop} {r : Int} (hq : Q none (hM D')) {k186 : ga_D → ga_S} (hk186 : ∀ (D : ga_D), h_P D → k186 D = some (r, D') → aw_HW G "WasteHouse$TicketChain$Sum" cX4_fold none 13 1 false M0 Q aw_no D' (hn D') (hsl D') 186 [(0, (2, 4099))] [] D) : ∀ {n : Nat} {x1 : Int} {D : ga_D}, h_P D → h_X4_fold_l85 n x1 D k186 = some (r, D') → aw_HW G "WasteHouse$TicketChain$Sum" cX4_fold none 13 1 false M0 Q aw_no D' (hn D') (hsl D') 85 [(0, (2, 4099)), (1, (0, x1))] [] D := by
  intro n
  induction n with
  | zero => intro x1 D hP h; exact absurd (h : (none : ga_S) = some (r, D')) (by intro h; cases h)
  | succ n ih =>
    intro x1 D hP h
    have ih : ∀ (x1 : Int) (D : ga_D), h_P D → h_X4_fold_l85 n x1 D k186 = some (r, D') → aw_HW G "WasteHouse$TicketChain$Sum" cX4_fold none 13 1 false M0 Q aw_no D' (hn D') (hsl D') 85 [(0, (2, 4099)), (1, (0, x1))] [] D := fun x1 D hP h => ih hP h
    replace h : (if 64 ≤ x1 then (k186 D) else (ga_ck (0 ≤ aw_w32 (x1 - 15) ∧ aw_w32 (x1 - 15) < 64) (ga_let (D 4104 (aw_w32 (x1 - 15))) (fun v100 => ga_ck (0 ≤ aw_w32 (x1 - 2) ∧ aw_w32 (x1 - 2) < 64) (ga_let (D 4104 (aw_w32 (x1 - 2))) (fun v109 => ga_bind (h_J25_rotateRight v100 7 D) (fun r113 D113 => ga_bind (h_J25_rotateRight v100 18 D113) (fun r119 D119 => ga_let (aw_xor (aw_xor r113 r119) (aw_ushr v100 3)) (fun v127 => ga_bind (h_J25_rotateRight v109 17 D119) (fun r132 D132 => ga_bind (h_J25_rotateRight v109 19 D132) (fun r138 D138 => ga_let (aw_xor (aw_xor r132 r138) (aw_ushr v109 10)) (fun v147 => ga_ck (0 ≤ aw_w32 (x1 - 7) ∧ aw_w32 (x1 - 7) < 64) (ga_ck (0 ≤ aw_w32 (x1 - 16) ∧ aw_w32 (x1 - 16) < 64) (ga_ck (0 ≤ x1 ∧ x1 < 64) (ga_let (ga_set D138 4104 x1 (aw_w32 ((aw_w32 ((aw_w32 (v147 + (D138 4104 (aw_w32 (x1 - 7))))) + v127)) + (D138 4104 (aw_w32 (x1 - 16)))))) (fun D179 => ga_let (aw_w32 (x1 + 1)) (fun v180 => h_X4_fold_l85 n v180 D179 k186)))))))))))))))) : ga_S) = some (r, D') := h
    refine hw_1 (fun k => x_iload_n dX4_fold_85 rfl k) ?_
    refine hw_1 (fun k => x_bipush dX4_fold_86 (by decide) k) ?_
    by_cases c88 : 64 ≤ x1
    · rw [if_pos c88] at h
      refine hw_1 (fun k => x_icmp_ge (tgt := 186) dX4_fold_88 (by decide) (fun _ => k) (fun z => absurd c88 z)) ?_
      refine hw_locs [0] (ls' := [(0, (2, 4099))]) rfl ?_
      exact hk186 _ hP h
    · rw [if_neg c88] at h
      refine hw_1 (fun k => x_icmp_ge (tgt := 186) dX4_fold_88 (by decide) (fun z => absurd z c88) (fun _ => k)) ?_
      refine hw_1 (fun k => x_aload_n dX4_fold_91 rfl k) ?_
      refine hw_1 (fun k => x_getf (v := 4104) dX4_fold_92 fl_X4_15 (hkS (D := D) (show ga_K 4099 = (3, 0) from by decide +kernel) (by decide)) (hP.1 4099 2 4104 (by decide +kernel)) k) ?_
      refine hw_1 (fun k => x_iload_n dX4_fold_95 rfl k) ?_
      refine hw_1 (fun k => x_bipush dX4_fold_96 (by decide) k) ?_
      refine hw_1 (fun k => x_isub dX4_fold_98 rfl k) ?_
      replace h := ga_ck_some h; obtain ⟨hc99_0, h⟩ := h
      refine hw_1 (fun k => x_iald (v := D 4104 (aw_w32 (x1 - 15))) dX4_fold_99 (hkS (D := D) (show ga_K 4104 = (1000, 64) from by decide +kernel) (by decide)) hc99_0.1 hc99_0.2 rfl k) ?_
      replace h := ga_let_some h; obtain ⟨v100, ev100, h⟩ := h
      refine hw_nm ev100 ?_
      refine hw_1 (fun k => x_istore_n (ls' := [(2, (0, v100)), (0, (2, 4099)), (1, (0, x1))]) dX4_fold_100 (by decide) rfl k) ?_
      refine hw_1 (fun k => x_aload_n dX4_fold_101 rfl k) ?_
      refine hw_1 (fun k => x_getf (v := 4104) dX4_fold_102 fl_X4_15 (hkS (D := D) (show ga_K 4099 = (3, 0) from by decide +kernel) (by decide)) (hP.1 4099 2 4104 (by decide +kernel)) k) ?_
      refine hw_1 (fun k => x_iload_n dX4_fold_105 rfl k) ?_
      refine hw_1 (fun k => x_iconst dX4_fold_106 (by decide) k) ?_
      refine hw_1 (fun k => x_isub dX4_fold_107 rfl k) ?_
      replace h := ga_ck_some h; obtain ⟨hc108_1, h⟩ := h
      refine hw_1 (fun k => x_iald (v := D 4104 (aw_w32 (x1 - 2))) dX4_fold_108 (hkS (D := D) (show ga_K 4104 = (1000, 64) from by decide +kernel) (by decide)) hc108_1.1 hc108_1.2 rfl k) ?_
      replace h := ga_let_some h; obtain ⟨v109, ev109, h⟩ := h
      refine hw_nm ev109 ?_
      refine hw_1 (fun k => x_istore_n (ls' := [(3, (0, v109)), (2, (0, v100)), (0, (2, 4099)), (1, (0, x1))]) dX4_fold_109 (by decide) rfl k) ?_
      refine hw_1 (fun k => x_iload_n dX4_fold_110 rfl k) ?_
      refine hw_1 (fun k => x_bipush dX4_fold_111 (by decide) k) ?_
      replace h := ga_bind_some h; obtain ⟨r113, D113, g113, h⟩ := h
      have hR113 := (h_J25_rotateRight_ok (G := G) hP g113)
      obtain ⟨hP113, hE113, -⟩ := id hR113
      refine hw_call (rest := []) hR113 (fun hc hk9 => x_callS (as := [(0, v100), (0, 7)]) (rest := []) dX4_fold_113 hc (lw_S q5204 q5205 q476 q5206) (show _ ∧ _ ∧ _ = some 2 from by decide +kernel) (by decide) (by decide) rfl (Nat.le_of_ble_eq_true rfl) hk9 aw_nox) ?_
      refine hw_1 (fun k => x_iload_n dX4_fold_116 rfl k) ?_
      refine hw_1 (fun k => x_bipush dX4_fold_117 (by decide) k) ?_
      replace h := ga_bind_some h; obtain ⟨r119, D119, g119, h⟩ := h
      have hR119 := (h_J25_rotateRight_ok (G := G) hP113 g119)
      obtain ⟨hP119, hE119, -⟩ := id hR119
      refine hw_call (rest := [(0, r113)]) hR119 (fun hc hk9 => x_callS (as := [(0, v100), (0, 18)]) (rest := [(0, r113)]) dX4_fold_119 hc (lw_S q5204 q5205 q476 q5206) (show _ ∧ _ ∧ _ = some 2 from by decide +kernel) (by decide) (by decide) rfl (Nat.le_of_ble_eq_true rfl) hk9 aw_nox) ?_
      refine hw_1 (fun k => x_ixor dX4_fold_122 rfl k) ?_
      refine hw_1 (fun k => x_iload_n dX4_fold_123 rfl k) ?_
      refine hw_1 (fun k => x_iconst dX4_fold_124 (by decide) k) ?_
      refine hw_1 (fun k => x_iushr dX4_fold_125 rfl k) ?_
      refine hw_1 (fun k => x_ixor dX4_fold_126 rfl k) ?_
      replace h := ga_let_some h; obtain ⟨v127, ev127, h⟩ := h
      refine hw_nm ev127 ?_
      refine hw_1 (fun k => x_istore (ls' := [(4, (0, v127)), (3, (0, v109)), (2, (0, v100)), (0, (2, 4099)), (1, (0, x1))]) dX4_fold_127 (by decide) rfl k) ?_
      refine hw_1 (fun k => x_iload_n dX4_fold_129 rfl k) ?_
      refine hw_1 (fun k => x_bipush dX4_fold_130 (by decide) k) ?_
      replace h := ga_bind_some h; obtain ⟨r132, D132, g132, h⟩ := h
      have hR132 := (h_J25_rotateRight_ok (G := G) hP119 g132)
      obtain ⟨hP132, hE132, -⟩ := id hR132
      refine hw_call (rest := []) hR132 (fun hc hk9 => x_callS (as := [(0, v109), (0, 17)]) (rest := []) dX4_fold_132 hc (lw_S q5204 q5205 q476 q5206) (show _ ∧ _ ∧ _ = some 2 from by decide +kernel) (by decide) (by decide) rfl (Nat.le_of_ble_eq_true rfl) hk9 aw_nox) ?_
      refine hw_1 (fun k => x_iload_n dX4_fold_135 rfl k) ?_
      refine hw_1 (fun k => x_bipush dX4_fold_136 (by decide) k) ?_
      replace h := ga_bind_some h; obtain ⟨r138, D138, g138, h⟩ := h
      have hR138 := (h_J25_rotateRight_ok (G := G) hP132 g138)
      obtain ⟨hP138, hE138, -⟩ := id hR138
      refine hw_call (rest := [(0, r132)]) hR138 (fun hc hk9 => x_callS (as := [(0, v109), (0, 19)]) (rest := [(0, r132)]) dX4_fold_138 hc (lw_S q5204 q5205 q476 q5206) (show _ ∧ _ ∧ _ = some 2 from by decide +kernel) (by decide) (by decide) rfl (Nat.le_of_ble_eq_true rfl) hk9 aw_nox) ?_
      refine hw_1 (fun k => x_ixor dX4_fold_141 rfl k) ?_
      refine hw_1 (fun k => x_iload_n dX4_fold_142 rfl k) ?_
      refine hw_1 (fun k => x_bipush dX4_fold_143 (by decide) k) ?_
      refine hw_1 (fun k => x_iushr dX4_fold_145 rfl k) ?_
      refine hw_1 (fun k => x_ixor dX4_fold_146 rfl k) ?_
      replace h := ga_let_some h; obtain ⟨v147, ev147, h⟩ := h
      refine hw_nm ev147 ?_
      refine hw_1 (fun k => x_istore (ls' := [(5, (0, v147)), (4, (0, v127)), (3, (0, v109)), (2, (0, v100)), (0, (2, 4099)), (1, (0, x1))]) dX4_fold_147 (by decide) rfl k) ?_
      refine hw_1 (fun k => x_aload_n dX4_fold_149 rfl k) ?_
      refine hw_1 (fun k => x_getf (v := 4104) dX4_fold_150 fl_X4_15 (hkS (D := D138) (show ga_K 4099 = (3, 0) from by decide +kernel) (by decide)) (hP138.1 4099 2 4104 (by decide +kernel)) k) ?_
      refine hw_1 (fun k => x_iload_n dX4_fold_153 rfl k) ?_
      refine hw_1 (fun k => x_iload dX4_fold_154 rfl k) ?_
      refine hw_1 (fun k => x_aload_n dX4_fold_156 rfl k) ?_
      refine hw_1 (fun k => x_getf (v := 4104) dX4_fold_157 fl_X4_15 (hkS (D := D138) (show ga_K 4099 = (3, 0) from by decide +kernel) (by decide)) (hP138.1 4099 2 4104 (by decide +kernel)) k) ?_
      refine hw_1 (fun k => x_iload_n dX4_fold_160 rfl k) ?_
      refine hw_1 (fun k => x_bipush dX4_fold_161 (by decide) k) ?_
      refine hw_1 (fun k => x_isub dX4_fold_163 rfl k) ?_
      replace h := ga_ck_some h; obtain ⟨hc164_2, h⟩ := h
      refine hw_1 (fun k => x_iald (v := D138 4104 (aw_w32 (x1 - 7))) dX4_fold_164 (hkS (D := D138) (show ga_K 4104 = (1000, 64) from by decide +kernel) (by decide)) hc164_2.1 hc164_2.2 rfl k) ?_
      refine hw_1 (fun k => x_iadd dX4_fold_165 rfl k) ?_
      refine hw_1 (fun k => x_iload dX4_fold_166 rfl k) ?_
      refine hw_1 (fun k => x_iadd dX4_fold_168 rfl k) ?_
      refine hw_1 (fun k => x_aload_n dX4_fold_169 rfl k) ?_
      refine hw_1 (fun k => x_getf (v := 4104) dX4_fold_170 fl_X4_15 (hkS (D := D138) (show ga_K 4099 = (3, 0) from by decide +kernel) (by decide)) (hP138.1 4099 2 4104 (by decide +kernel)) k) ?_
      refine hw_1 (fun k => x_iload_n dX4_fold_173 rfl k) ?_
      refine hw_1 (fun k => x_bipush dX4_fold_174 (by decide) k) ?_
      refine hw_1 (fun k => x_isub dX4_fold_176 rfl k) ?_
      replace h := ga_ck_some h; obtain ⟨hc177_3, h⟩ := h
      refine hw_1 (fun k => x_iald (v := D138 4104 (aw_w32 (x1 - 16))) dX4_fold_177 (hkS (D := D138) (show ga_K 4104 = (1000, 64) from by decide +kernel) (by decide)) hc177_3.1 hc177_3.2 rfl k) ?_
      refine hw_1 (fun k => x_iadd dX4_fold_178 rfl k) ?_
      replace h := ga_ck_some h; obtain ⟨hc179_4, h⟩ := h
      replace h := ga_let_some h; obtain ⟨D179, eD179, h⟩ := h
      refine hw_set eD179 (by decide) hc179_4.1 (fun k => x_iast dX4_fold_179 (hkS (D := D138) (show ga_K 4104 = (1000, 64) from by decide +kernel) (by decide)) (by decide) hc179_4.1 hc179_4.2 k) ?_
      have hP179 : h_P D179 := hP138.set eD179 (by decide) hc179_4.1 (hPn (hkS (D := D138) (show ga_K 4104 = (1000, 64) from by decide +kernel) (by decide)) rfl)
      have hE179 : h_E D138 D179 := h_E_set eD179 hc179_4.1
      replace h := ga_let_some h; obtain ⟨v180, ev180, h⟩ := h
      refine hw_1 (fun k => x_iinc (ls' := [(1, (0, v180)), (5, (0, v147)), (4, (0, v127)), (3, (0, v109)), (2, (0, v100)), (0, (2, 4099))]) dX4_fold_180 rfl ev180.symm (by decide) rfl k) ?_
      refine hw_1 (fun k => x_goto (tgt := 85) dX4_fold_183 (by decide) k) ?_
      refine hw_locs [5, 0] (ls' := [(0, (2, 4099)), (1, (0, v180))]) rfl ?_
      exact ih _ _ hP179 h
theorem h_X4_fold_l252_ok {G : aw_G} {M0 : aw_M} {D' : ga_D} {Q : Option aw_V → aw_M → Prop} {r : Int} (hq : Q none (hM D')) {k395 : Int → Int → Int → Int → Int → Int → Int → Int → ga_D → ga_S} (hk395 : ∀ (x1 x2 x3 x4 x5 x6 x7 x8 : Int) (D : ga_D), h_P D → k395 x1 x2 x3 x4 x5 x6 x7 x8 D = some (r, D') → aw_HW G "WasteHouse$TicketChain$Sum" cX4_fold none 13 1 false M0 Q aw_no D' (hn D') (hsl D') 395 [(0, (2, 4099)), (1, (0, x1)), (2, (0, x2)), (3, (0, x3)), (4, (0, x4)), (5, (0, x5)), (6, (0, x6)), (7, (0, x7)), (8, (0, x8))] [] D) : ∀ {n : Nat} {x1 x2 x3 x4 x5 x6 x7 x8 x9 : Int} {D : ga_D}, h_P D → h_X4_fold_l252 n x1 x2 x3 x4 x5 x6 x7 x8 x9 D k395 = some (r, D') → aw_HW G "WasteHouse$TicketChain$Sum" cX4_fold none 13 1 false M0 Q aw_no D' (hn D') (hsl D') 252 [(0, (2, 4099)), (1, (0, x1)), (2, (0, x2)), (3, (0, x3)), (4, (0, x4)), (5, (0, x5)), (6, (0, x6)), (7, (0, x7)), (8, (0, x8)), (9, (0, x9))] [] D := by
  intro n
  induction n with
  | zero => intro x1 x2 x3 x4 x5 x6 x7 x8 x9 D hP h; exact absurd (h : (none : ga_S) = some (r, D')) (by intro h; cases h)
  | succ n ih =>
    intro x1 x2 x3 x4 x5 x6 x7 x8 x9 D hP h
    have ih : ∀ (x1 x2 x3 x4 x5 x6 x7 x8 x9 : Int) (D : ga_D), h_P D → h_X4_fold_l252 n x1 x2 x3 x4 x5 x6 x7 x8 x9 D k395 = some (r, D') → aw_HW G "WasteHouse$TicketChain$Sum" cX4_fold none 13 1 false M0 Q aw_no D' (hn D') (hsl D') 252 [(0, (2, 4099)), (1, (0, x1)), (2, (0, x2)), (3, (0, x3)), (4, (0, x4)), (5, (0, x5)), (6, (0, x6)), (7, (0, x7)), (8, (0, x8)), (9, (0, x9))] [] D := fun x1 x2 x3 x4 x5 x6 x7 x8 x9 D hP h => ih hP h
    replace h : (if 64 ≤ x9 then (k395 x1 x2 x3 x4 x5 x6 x7 x8 D) else (ga_bind (h_J25_rotateRight x5 6 D) (fun r263 D263 => ga_bind (h_J25_rotateRight x5 11 D263) (fun r270 D270 => ga_bind (h_J25_rotateRight x5 25 D270) (fun r278 D278 => ga_let (aw_xor (aw_xor r263 r270) r278) (fun v282 => ga_ck (0 ≤ x9 ∧ x9 < 64) (ga_ck (0 ≤ x9 ∧ x9 < 64) (ga_let (aw_w32 ((aw_w32 ((aw_w32 ((aw_w32 (x8 + v282)) + (aw_xor (aw_and x5 x6) (aw_and (aw_xor x5 (-1)) x7)))) + (D278 4101 x9))) + (D278 4104 x9))) (fun v322 => ga_bind (h_J25_rotateRight x1 2 D278) (fun r326 D326 => ga_bind (h_J25_rotateRight x1 13 D326) (fun r332 D332 => ga_bind (h_J25_rotateRight x1 22 D332) (fun r339 D339 => ga_let (aw_w32 ((aw_xor (aw_xor r326 r332) r339) + (aw_xor (aw_xor (aw_and x1 x2) (aw_and x1 x3)) (aw_and x2 x3)))) (fun v355 => ga_let (aw_w32 (x4 + v322)) (fun v374 => ga_let (aw_w32 (v322 + v355)) (fun v388 => ga_let (aw_w32 (x9 + 1)) (fun v389 => h_X4_fold_l252 n v388 x1 x2 x3 v374 x5 x6 x7 v389 D339 k395))))))))))))))) : ga_S) = some (r, D') := h
    refine hw_1 (fun k => x_iload dX4_fold_252 rfl k) ?_
    refine hw_1 (fun k => x_bipush dX4_fold_254 (by decide) k) ?_
    by_cases c256 : 64 ≤ x9
    · rw [if_pos c256] at h
      refine hw_1 (fun k => x_icmp_ge (tgt := 395) dX4_fold_256 (by decide) (fun _ => k) (fun z => absurd c256 z)) ?_
      refine hw_locs [0, 1, 2, 3, 4, 5, 6, 7, 8] (ls' := [(0, (2, 4099)), (1, (0, x1)), (2, (0, x2)), (3, (0, x3)), (4, (0, x4)), (5, (0, x5)), (6, (0, x6)), (7, (0, x7)), (8, (0, x8))]) rfl ?_
      exact hk395 _ _ _ _ _ _ _ _ _ hP h
    · rw [if_neg c256] at h
      refine hw_1 (fun k => x_icmp_ge (tgt := 395) dX4_fold_256 (by decide) (fun z => absurd z c256) (fun _ => k)) ?_
      refine hw_1 (fun k => x_iload dX4_fold_259 rfl k) ?_
      refine hw_1 (fun k => x_bipush dX4_fold_261 (by decide) k) ?_
      replace h := ga_bind_some h; obtain ⟨r263, D263, g263, h⟩ := h
      have hR263 := (h_J25_rotateRight_ok (G := G) hP g263)
      obtain ⟨hP263, hE263, -⟩ := id hR263
      refine hw_call (rest := []) hR263 (fun hc hk9 => x_callS (as := [(0, x5), (0, 6)]) (rest := []) dX4_fold_263 hc (lw_S q5204 q5205 q476 q5206) (show _ ∧ _ ∧ _ = some 2 from by decide +kernel) (by decide) (by decide) rfl (Nat.le_of_ble_eq_true rfl) hk9 aw_nox) ?_
      refine hw_1 (fun k => x_iload dX4_fold_266 rfl k) ?_
      refine hw_1 (fun k => x_bipush dX4_fold_268 (by decide) k) ?_
      replace h := ga_bind_some h; obtain ⟨r270, D270, g270, h⟩ := h
      have hR270 := (h_J25_rotateRight_ok (G := G) hP263 g270)
      obtain ⟨hP270, hE270, -⟩ := id hR270
      refine hw_call (rest := [(0, r263)]) hR270 (fun hc hk9 => x_callS (as := [(0, x5), (0, 11)]) (rest := [(0, r263)]) dX4_fold_270 hc (lw_S q5204 q5205 q476 q5206) (show _ ∧ _ ∧ _ = some 2 from by decide +kernel) (by decide) (by decide) rfl (Nat.le_of_ble_eq_true rfl) hk9 aw_nox) ?_
      refine hw_1 (fun k => x_ixor dX4_fold_273 rfl k) ?_
      refine hw_1 (fun k => x_iload dX4_fold_274 rfl k) ?_
      refine hw_1 (fun k => x_bipush dX4_fold_276 (by decide) k) ?_
      replace h := ga_bind_some h; obtain ⟨r278, D278, g278, h⟩ := h
      have hR278 := (h_J25_rotateRight_ok (G := G) hP270 g278)
      obtain ⟨hP278, hE278, -⟩ := id hR278
      refine hw_call (rest := [(0, aw_xor r263 r270)]) hR278 (fun hc hk9 => x_callS (as := [(0, x5), (0, 25)]) (rest := [(0, aw_xor r263 r270)]) dX4_fold_278 hc (lw_S q5204 q5205 q476 q5206) (show _ ∧ _ ∧ _ = some 2 from by decide +kernel) (by decide) (by decide) rfl (Nat.le_of_ble_eq_true rfl) hk9 aw_nox) ?_
      refine hw_1 (fun k => x_ixor dX4_fold_281 rfl k) ?_
      replace h := ga_let_some h; obtain ⟨v282, ev282, h⟩ := h
      refine hw_nm ev282 ?_
      refine hw_1 (fun k => x_istore (ls' := [(10, (0, v282)), (0, (2, 4099)), (1, (0, x1)), (2, (0, x2)), (3, (0, x3)), (4, (0, x4)), (5, (0, x5)), (6, (0, x6)), (7, (0, x7)), (8, (0, x8)), (9, (0, x9))]) dX4_fold_282 (by decide) rfl k) ?_
      refine hw_1 (fun k => x_iload dX4_fold_284 rfl k) ?_
      refine hw_1 (fun k => x_iload dX4_fold_286 rfl k) ?_
      refine hw_1 (fun k => x_iadd dX4_fold_288 rfl k) ?_
      refine hw_1 (fun k => x_iload dX4_fold_289 rfl k) ?_
      refine hw_1 (fun k => x_iload dX4_fold_291 rfl k) ?_
      refine hw_1 (fun k => x_iand dX4_fold_293 rfl k) ?_
      refine hw_1 (fun k => x_iload dX4_fold_294 rfl k) ?_
      refine hw_1 (fun k => x_iconst dX4_fold_296 (by decide) k) ?_
      refine hw_1 (fun k => x_ixor dX4_fold_297 rfl k) ?_
      refine hw_1 (fun k => x_iload dX4_fold_298 rfl k) ?_
      refine hw_1 (fun k => x_iand dX4_fold_300 rfl k) ?_
      refine hw_1 (fun k => x_ixor dX4_fold_301 rfl k) ?_
      refine hw_1 (fun k => x_iadd dX4_fold_302 rfl k) ?_
      refine hw_1 (fun k => x_aload_n dX4_fold_303 rfl k) ?_
      refine hw_1 (fun k => x_getf (v := 4100) dX4_fold_304 fl_X4_22 (hkS (D := D278) (show ga_K 4099 = (3, 0) from by decide +kernel) (by decide)) (hP278.1 4099 0 4100 (by decide +kernel)) k) ?_
      refine hw_1 (fun k => x_getf (v := 4101) dX4_fold_307 fl_X4_56 (hkS (D := D278) (show ga_K 4100 = (4, 0) from by decide +kernel) (by decide)) (hP278.1 4100 0 4101 (by decide +kernel)) k) ?_
      refine hw_1 (fun k => x_iload dX4_fold_310 rfl k) ?_
      replace h := ga_ck_some h; obtain ⟨hc312_0, h⟩ := h
      refine hw_1 (fun k => x_iald (v := D278 4101 x9) dX4_fold_312 (hkS (D := D278) (show ga_K 4101 = (1000, 64) from by decide +kernel) (by decide)) hc312_0.1 hc312_0.2 rfl k) ?_
      refine hw_1 (fun k => x_iadd dX4_fold_313 rfl k) ?_
      refine hw_1 (fun k => x_aload_n dX4_fold_314 rfl k) ?_
      refine hw_1 (fun k => x_getf (v := 4104) dX4_fold_315 fl_X4_15 (hkS (D := D278) (show ga_K 4099 = (3, 0) from by decide +kernel) (by decide)) (hP278.1 4099 2 4104 (by decide +kernel)) k) ?_
      refine hw_1 (fun k => x_iload dX4_fold_318 rfl k) ?_
      replace h := ga_ck_some h; obtain ⟨hc320_1, h⟩ := h
      refine hw_1 (fun k => x_iald (v := D278 4104 x9) dX4_fold_320 (hkS (D := D278) (show ga_K 4104 = (1000, 64) from by decide +kernel) (by decide)) hc320_1.1 hc320_1.2 rfl k) ?_
      refine hw_1 (fun k => x_iadd dX4_fold_321 rfl k) ?_
      replace h := ga_let_some h; obtain ⟨v322, ev322, h⟩ := h
      refine hw_nm ev322 ?_
      refine hw_1 (fun k => x_istore (ls' := [(11, (0, v322)), (10, (0, v282)), (0, (2, 4099)), (1, (0, x1)), (2, (0, x2)), (3, (0, x3)), (4, (0, x4)), (5, (0, x5)), (6, (0, x6)), (7, (0, x7)), (8, (0, x8)), (9, (0, x9))]) dX4_fold_322 (by decide) rfl k) ?_
      refine hw_1 (fun k => x_iload_n dX4_fold_324 rfl k) ?_
      refine hw_1 (fun k => x_iconst dX4_fold_325 (by decide) k) ?_
      replace h := ga_bind_some h; obtain ⟨r326, D326, g326, h⟩ := h
      have hR326 := (h_J25_rotateRight_ok (G := G) hP278 g326)
      obtain ⟨hP326, hE326, -⟩ := id hR326
      refine hw_call (rest := []) hR326 (fun hc hk9 => x_callS (as := [(0, x1), (0, 2)]) (rest := []) dX4_fold_326 hc (lw_S q5204 q5205 q476 q5206) (show _ ∧ _ ∧ _ = some 2 from by decide +kernel) (by decide) (by decide) rfl (Nat.le_of_ble_eq_true rfl) hk9 aw_nox) ?_
      refine hw_1 (fun k => x_iload_n dX4_fold_329 rfl k) ?_
      refine hw_1 (fun k => x_bipush dX4_fold_330 (by decide) k) ?_
      replace h := ga_bind_some h; obtain ⟨r332, D332, g332, h⟩ := h
      have hR332 := (h_J25_rotateRight_ok (G := G) hP326 g332)
      obtain ⟨hP332, hE332, -⟩ := id hR332
      refine hw_call (rest := [(0, r326)]) hR332 (fun hc hk9 => x_callS (as := [(0, x1), (0, 13)]) (rest := [(0, r326)]) dX4_fold_332 hc (lw_S q5204 q5205 q476 q5206) (show _ ∧ _ ∧ _ = some 2 from by decide +kernel) (by decide) (by decide) rfl (Nat.le_of_ble_eq_true rfl) hk9 aw_nox) ?_
      refine hw_1 (fun k => x_ixor dX4_fold_335 rfl k) ?_
      refine hw_1 (fun k => x_iload_n dX4_fold_336 rfl k) ?_
      refine hw_1 (fun k => x_bipush dX4_fold_337 (by decide) k) ?_
      replace h := ga_bind_some h; obtain ⟨r339, D339, g339, h⟩ := h
      have hR339 := (h_J25_rotateRight_ok (G := G) hP332 g339)
      obtain ⟨hP339, hE339, -⟩ := id hR339
      refine hw_call (rest := [(0, aw_xor r326 r332)]) hR339 (fun hc hk9 => x_callS (as := [(0, x1), (0, 22)]) (rest := [(0, aw_xor r326 r332)]) dX4_fold_339 hc (lw_S q5204 q5205 q476 q5206) (show _ ∧ _ ∧ _ = some 2 from by decide +kernel) (by decide) (by decide) rfl (Nat.le_of_ble_eq_true rfl) hk9 aw_nox) ?_
      refine hw_1 (fun k => x_ixor dX4_fold_342 rfl k) ?_
      refine hw_1 (fun k => x_iload_n dX4_fold_343 rfl k) ?_
      refine hw_1 (fun k => x_iload_n dX4_fold_344 rfl k) ?_
      refine hw_1 (fun k => x_iand dX4_fold_345 rfl k) ?_
      refine hw_1 (fun k => x_iload_n dX4_fold_346 rfl k) ?_
      refine hw_1 (fun k => x_iload_n dX4_fold_347 rfl k) ?_
      refine hw_1 (fun k => x_iand dX4_fold_348 rfl k) ?_
      refine hw_1 (fun k => x_ixor dX4_fold_349 rfl k) ?_
      refine hw_1 (fun k => x_iload_n dX4_fold_350 rfl k) ?_
      refine hw_1 (fun k => x_iload_n dX4_fold_351 rfl k) ?_
      refine hw_1 (fun k => x_iand dX4_fold_352 rfl k) ?_
      refine hw_1 (fun k => x_ixor dX4_fold_353 rfl k) ?_
      refine hw_1 (fun k => x_iadd dX4_fold_354 rfl k) ?_
      replace h := ga_let_some h; obtain ⟨v355, ev355, h⟩ := h
      refine hw_nm ev355 ?_
      refine hw_1 (fun k => x_istore (ls' := [(12, (0, v355)), (11, (0, v322)), (10, (0, v282)), (0, (2, 4099)), (1, (0, x1)), (2, (0, x2)), (3, (0, x3)), (4, (0, x4)), (5, (0, x5)), (6, (0, x6)), (7, (0, x7)), (8, (0, x8)), (9, (0, x9))]) dX4_fold_355 (by decide) rfl k) ?_
      refine hw_1 (fun k => x_iload dX4_fold_357 rfl k) ?_
      refine hw_1 (fun k => x_istore (ls' := [(8, (0, x7)), (12, (0, v355)), (11, (0, v322)), (10, (0, v282)), (0, (2, 4099)), (1, (0, x1)), (2, (0, x2)), (3, (0, x3)), (4, (0, x4)), (5, (0, x5)), (6, (0, x6)), (7, (0, x7)), (9, (0, x9))]) dX4_fold_359 (by decide) rfl k) ?_
      refine hw_1 (fun k => x_iload dX4_fold_361 rfl k) ?_
      refine hw_1 (fun k => x_istore (ls' := [(7, (0, x6)), (8, (0, x7)), (12, (0, v355)), (11, (0, v322)), (10, (0, v282)), (0, (2, 4099)), (1, (0, x1)), (2, (0, x2)), (3, (0, x3)), (4, (0, x4)), (5, (0, x5)), (6, (0, x6)), (9, (0, x9))]) dX4_fold_363 (by decide) rfl k) ?_
      refine hw_1 (fun k => x_iload dX4_fold_365 rfl k) ?_
      refine hw_1 (fun k => x_istore (ls' := [(6, (0, x5)), (7, (0, x6)), (8, (0, x7)), (12, (0, v355)), (11, (0, v322)), (10, (0, v282)), (0, (2, 4099)), (1, (0, x1)), (2, (0, x2)), (3, (0, x3)), (4, (0, x4)), (5, (0, x5)), (9, (0, x9))]) dX4_fold_367 (by decide) rfl k) ?_
      refine hw_1 (fun k => x_iload dX4_fold_369 rfl k) ?_
      refine hw_1 (fun k => x_iload dX4_fold_371 rfl k) ?_
      refine hw_1 (fun k => x_iadd dX4_fold_373 rfl k) ?_
      replace h := ga_let_some h; obtain ⟨v374, ev374, h⟩ := h
      refine hw_nm ev374 ?_
      refine hw_1 (fun k => x_istore (ls' := [(5, (0, v374)), (6, (0, x5)), (7, (0, x6)), (8, (0, x7)), (12, (0, v355)), (11, (0, v322)), (10, (0, v282)), (0, (2, 4099)), (1, (0, x1)), (2, (0, x2)), (3, (0, x3)), (4, (0, x4)), (9, (0, x9))]) dX4_fold_374 (by decide) rfl k) ?_
      refine hw_1 (fun k => x_iload_n dX4_fold_376 rfl k) ?_
      refine hw_1 (fun k => x_istore (ls' := [(4, (0, x3)), (5, (0, v374)), (6, (0, x5)), (7, (0, x6)), (8, (0, x7)), (12, (0, v355)), (11, (0, v322)), (10, (0, v282)), (0, (2, 4099)), (1, (0, x1)), (2, (0, x2)), (3, (0, x3)), (9, (0, x9))]) dX4_fold_377 (by decide) rfl k) ?_
      refine hw_1 (fun k => x_iload_n dX4_fold_379 rfl k) ?_
      refine hw_1 (fun k => x_istore_n (ls' := [(3, (0, x2)), (4, (0, x3)), (5, (0, v374)), (6, (0, x5)), (7, (0, x6)), (8, (0, x7)), (12, (0, v355)), (11, (0, v322)), (10, (0, v282)), (0, (2, 4099)), (1, (0, x1)), (2, (0, x2)), (9, (0, x9))]) dX4_fold_380 (by decide) rfl k) ?_
      refine hw_1 (fun k => x_iload_n dX4_fold_381 rfl k) ?_
      refine hw_1 (fun k => x_istore_n (ls' := [(2, (0, x1)), (3, (0, x2)), (4, (0, x3)), (5, (0, v374)), (6, (0, x5)), (7, (0, x6)), (8, (0, x7)), (12, (0, v355)), (11, (0, v322)), (10, (0, v282)), (0, (2, 4099)), (1, (0, x1)), (9, (0, x9))]) dX4_fold_382 (by decide) rfl k) ?_
      refine hw_1 (fun k => x_iload dX4_fold_383 rfl k) ?_
      refine hw_1 (fun k => x_iload dX4_fold_385 rfl k) ?_
      refine hw_1 (fun k => x_iadd dX4_fold_387 rfl k) ?_
      replace h := ga_let_some h; obtain ⟨v388, ev388, h⟩ := h
      refine hw_nm ev388 ?_
      refine hw_1 (fun k => x_istore_n (ls' := [(1, (0, v388)), (2, (0, x1)), (3, (0, x2)), (4, (0, x3)), (5, (0, v374)), (6, (0, x5)), (7, (0, x6)), (8, (0, x7)), (12, (0, v355)), (11, (0, v322)), (10, (0, v282)), (0, (2, 4099)), (9, (0, x9))]) dX4_fold_388 (by decide) rfl k) ?_
      replace h := ga_let_some h; obtain ⟨v389, ev389, h⟩ := h
      refine hw_1 (fun k => x_iinc (ls' := [(9, (0, v389)), (1, (0, v388)), (2, (0, x1)), (3, (0, x2)), (4, (0, x3)), (5, (0, v374)), (6, (0, x5)), (7, (0, x6)), (8, (0, x7)), (12, (0, v355)), (11, (0, v322)), (10, (0, v282)), (0, (2, 4099))]) dX4_fold_389 rfl ev389.symm (by decide) rfl k) ?_
      refine hw_1 (fun k => x_goto (tgt := 252) dX4_fold_392 (by decide) k) ?_
      refine hw_locs [12, 1, 2, 3, 4, 5, 6, 7, 8, 0] (ls' := [(0, (2, 4099)), (1, (0, v388)), (2, (0, x1)), (3, (0, x2)), (4, (0, x3)), (5, (0, v374)), (6, (0, x5)), (7, (0, x6)), (8, (0, x7)), (9, (0, v389))]) rfl ?_
      exact ih _ _ _ _ _ _ _ _ _ _ hP339 h
theorem h_X4_fold_ok {G : aw_G} {D D' : ga_D} {r : Int} (hP : h_P D) (h : h_X4_fold D = some (r, D')) : aw_HR yX4_fold cX4_fold 13 none 1 G [(2, 4099)] D none D' := by
  unfold h_X4_fold at h
  refine hw_body (own := "WasteHouse$TicketChain$Sum") (ini := false) (ls := [(0, (2, 4099))]) rfl rfl (fun h => by cases h) (Nat.le_of_ble_eq_true rfl) rfl fun Q hq => ?_
  refine hw_1 (fun k => x_iconst dX4_fold_0 (by decide) k) ?_
  refine hw_1 (fun k => x_istore_n (ls' := [(1, (0, 0)), (0, (2, 4099))]) dX4_fold_1 (by decide) rfl k) ?_
  refine hw_locs [1, 0] (ls' := [(0, (2, 4099)), (1, (0, 0))]) rfl ?_
  refine h_X4_fold_l2_ok hq (fun D82 hP h => ?_) hP h
  · refine hw_1 (fun k => x_bipush dX4_fold_82 (by decide) k) ?_
    refine hw_1 (fun k => x_istore_n (ls' := [(1, (0, 16)), (0, (2, 4099))]) dX4_fold_84 (by decide) rfl k) ?_
    refine hw_locs [1, 0] (ls' := [(0, (2, 4099)), (1, (0, 16))]) rfl ?_
    refine h_X4_fold_l85_ok hq (fun D186 hP h => ?_) hP h
    · refine hw_1 (fun k => x_aload_n dX4_fold_186 rfl k) ?_
      refine hw_1 (fun k => x_getf (v := 4103) dX4_fold_187 fl_X4_9 (hkS (D := D186) (show ga_K 4099 = (3, 0) from by decide +kernel) (by decide)) (hP.1 4099 1 4103 (by decide +kernel)) k) ?_
      refine hw_1 (fun k => x_iconst dX4_fold_190 (by decide) k) ?_
      replace h := ga_ck_some h; obtain ⟨hc191_0, h⟩ := h
      refine hw_1 (fun k => x_iald (v := D186 4103 0) dX4_fold_191 (hkS (D := D186) (show ga_K 4103 = (1000, 8) from by decide +kernel) (by decide)) hc191_0.1 hc191_0.2 rfl k) ?_
      replace h := ga_let_some h; obtain ⟨v192, ev192, h⟩ := h
      refine hw_nm ev192 ?_
      refine hw_1 (fun k => x_istore_n (ls' := [(1, (0, v192)), (0, (2, 4099))]) dX4_fold_192 (by decide) rfl k) ?_
      refine hw_1 (fun k => x_aload_n dX4_fold_193 rfl k) ?_
      refine hw_1 (fun k => x_getf (v := 4103) dX4_fold_194 fl_X4_9 (hkS (D := D186) (show ga_K 4099 = (3, 0) from by decide +kernel) (by decide)) (hP.1 4099 1 4103 (by decide +kernel)) k) ?_
      refine hw_1 (fun k => x_iconst dX4_fold_197 (by decide) k) ?_
      replace h := ga_ck_some h; obtain ⟨hc198_1, h⟩ := h
      refine hw_1 (fun k => x_iald (v := D186 4103 1) dX4_fold_198 (hkS (D := D186) (show ga_K 4103 = (1000, 8) from by decide +kernel) (by decide)) hc198_1.1 hc198_1.2 rfl k) ?_
      replace h := ga_let_some h; obtain ⟨v199, ev199, h⟩ := h
      refine hw_nm ev199 ?_
      refine hw_1 (fun k => x_istore_n (ls' := [(2, (0, v199)), (1, (0, v192)), (0, (2, 4099))]) dX4_fold_199 (by decide) rfl k) ?_
      refine hw_1 (fun k => x_aload_n dX4_fold_200 rfl k) ?_
      refine hw_1 (fun k => x_getf (v := 4103) dX4_fold_201 fl_X4_9 (hkS (D := D186) (show ga_K 4099 = (3, 0) from by decide +kernel) (by decide)) (hP.1 4099 1 4103 (by decide +kernel)) k) ?_
      refine hw_1 (fun k => x_iconst dX4_fold_204 (by decide) k) ?_
      replace h := ga_ck_some h; obtain ⟨hc205_2, h⟩ := h
      refine hw_1 (fun k => x_iald (v := D186 4103 2) dX4_fold_205 (hkS (D := D186) (show ga_K 4103 = (1000, 8) from by decide +kernel) (by decide)) hc205_2.1 hc205_2.2 rfl k) ?_
      replace h := ga_let_some h; obtain ⟨v206, ev206, h⟩ := h
      refine hw_nm ev206 ?_
      refine hw_1 (fun k => x_istore_n (ls' := [(3, (0, v206)), (2, (0, v199)), (1, (0, v192)), (0, (2, 4099))]) dX4_fold_206 (by decide) rfl k) ?_
      refine hw_1 (fun k => x_aload_n dX4_fold_207 rfl k) ?_
      refine hw_1 (fun k => x_getf (v := 4103) dX4_fold_208 fl_X4_9 (hkS (D := D186) (show ga_K 4099 = (3, 0) from by decide +kernel) (by decide)) (hP.1 4099 1 4103 (by decide +kernel)) k) ?_
      refine hw_1 (fun k => x_iconst dX4_fold_211 (by decide) k) ?_
      replace h := ga_ck_some h; obtain ⟨hc212_3, h⟩ := h
      refine hw_1 (fun k => x_iald (v := D186 4103 3) dX4_fold_212 (hkS (D := D186) (show ga_K 4103 = (1000, 8) from by decide +kernel) (by decide)) hc212_3.1 hc212_3.2 rfl k) ?_
      replace h := ga_let_some h; obtain ⟨v213, ev213, h⟩ := h
      refine hw_nm ev213 ?_
      refine hw_1 (fun k => x_istore (ls' := [(4, (0, v213)), (3, (0, v206)), (2, (0, v199)), (1, (0, v192)), (0, (2, 4099))]) dX4_fold_213 (by decide) rfl k) ?_
      refine hw_1 (fun k => x_aload_n dX4_fold_215 rfl k) ?_
      refine hw_1 (fun k => x_getf (v := 4103) dX4_fold_216 fl_X4_9 (hkS (D := D186) (show ga_K 4099 = (3, 0) from by decide +kernel) (by decide)) (hP.1 4099 1 4103 (by decide +kernel)) k) ?_
      refine hw_1 (fun k => x_iconst dX4_fold_219 (by decide) k) ?_
      replace h := ga_ck_some h; obtain ⟨hc220_4, h⟩ := h
      refine hw_1 (fun k => x_iald (v := D186 4103 4) dX4_fold_220 (hkS (D := D186) (show ga_K 4103 = (1000, 8) from by decide +kernel) (by decide)) hc220_4.1 hc220_4.2 rfl k) ?_
      replace h := ga_let_some h; obtain ⟨v221, ev221, h⟩ := h
      refine hw_nm ev221 ?_
      refine hw_1 (fun k => x_istore (ls' := [(5, (0, v221)), (4, (0, v213)), (3, (0, v206)), (2, (0, v199)), (1, (0, v192)), (0, (2, 4099))]) dX4_fold_221 (by decide) rfl k) ?_
      refine hw_1 (fun k => x_aload_n dX4_fold_223 rfl k) ?_
      refine hw_1 (fun k => x_getf (v := 4103) dX4_fold_224 fl_X4_9 (hkS (D := D186) (show ga_K 4099 = (3, 0) from by decide +kernel) (by decide)) (hP.1 4099 1 4103 (by decide +kernel)) k) ?_
      refine hw_1 (fun k => x_iconst dX4_fold_227 (by decide) k) ?_
      replace h := ga_ck_some h; obtain ⟨hc228_5, h⟩ := h
      refine hw_1 (fun k => x_iald (v := D186 4103 5) dX4_fold_228 (hkS (D := D186) (show ga_K 4103 = (1000, 8) from by decide +kernel) (by decide)) hc228_5.1 hc228_5.2 rfl k) ?_
      replace h := ga_let_some h; obtain ⟨v229, ev229, h⟩ := h
      refine hw_nm ev229 ?_
      refine hw_1 (fun k => x_istore (ls' := [(6, (0, v229)), (5, (0, v221)), (4, (0, v213)), (3, (0, v206)), (2, (0, v199)), (1, (0, v192)), (0, (2, 4099))]) dX4_fold_229 (by decide) rfl k) ?_
      refine hw_1 (fun k => x_aload_n dX4_fold_231 rfl k) ?_
      refine hw_1 (fun k => x_getf (v := 4103) dX4_fold_232 fl_X4_9 (hkS (D := D186) (show ga_K 4099 = (3, 0) from by decide +kernel) (by decide)) (hP.1 4099 1 4103 (by decide +kernel)) k) ?_
      refine hw_1 (fun k => x_bipush dX4_fold_235 (by decide) k) ?_
      replace h := ga_ck_some h; obtain ⟨hc237_6, h⟩ := h
      refine hw_1 (fun k => x_iald (v := D186 4103 6) dX4_fold_237 (hkS (D := D186) (show ga_K 4103 = (1000, 8) from by decide +kernel) (by decide)) hc237_6.1 hc237_6.2 rfl k) ?_
      replace h := ga_let_some h; obtain ⟨v238, ev238, h⟩ := h
      refine hw_nm ev238 ?_
      refine hw_1 (fun k => x_istore (ls' := [(7, (0, v238)), (6, (0, v229)), (5, (0, v221)), (4, (0, v213)), (3, (0, v206)), (2, (0, v199)), (1, (0, v192)), (0, (2, 4099))]) dX4_fold_238 (by decide) rfl k) ?_
      refine hw_1 (fun k => x_aload_n dX4_fold_240 rfl k) ?_
      refine hw_1 (fun k => x_getf (v := 4103) dX4_fold_241 fl_X4_9 (hkS (D := D186) (show ga_K 4099 = (3, 0) from by decide +kernel) (by decide)) (hP.1 4099 1 4103 (by decide +kernel)) k) ?_
      refine hw_1 (fun k => x_bipush dX4_fold_244 (by decide) k) ?_
      replace h := ga_ck_some h; obtain ⟨hc246_7, h⟩ := h
      refine hw_1 (fun k => x_iald (v := D186 4103 7) dX4_fold_246 (hkS (D := D186) (show ga_K 4103 = (1000, 8) from by decide +kernel) (by decide)) hc246_7.1 hc246_7.2 rfl k) ?_
      replace h := ga_let_some h; obtain ⟨v247, ev247, h⟩ := h
      refine hw_nm ev247 ?_
      refine hw_1 (fun k => x_istore (ls' := [(8, (0, v247)), (7, (0, v238)), (6, (0, v229)), (5, (0, v221)), (4, (0, v213)), (3, (0, v206)), (2, (0, v199)), (1, (0, v192)), (0, (2, 4099))]) dX4_fold_247 (by decide) rfl k) ?_
      refine hw_1 (fun k => x_iconst dX4_fold_249 (by decide) k) ?_
      refine hw_1 (fun k => x_istore (ls' := [(9, (0, 0)), (8, (0, v247)), (7, (0, v238)), (6, (0, v229)), (5, (0, v221)), (4, (0, v213)), (3, (0, v206)), (2, (0, v199)), (1, (0, v192)), (0, (2, 4099))]) dX4_fold_250 (by decide) rfl k) ?_
      refine hw_locs [9, 8, 7, 6, 5, 4, 3, 2, 1, 0] (ls' := [(0, (2, 4099)), (1, (0, v192)), (2, (0, v199)), (3, (0, v206)), (4, (0, v213)), (5, (0, v221)), (6, (0, v229)), (7, (0, v238)), (8, (0, v247)), (9, (0, 0))]) rfl ?_
      refine h_X4_fold_l252_ok hq (fun x1 x2 x3 x4 x5 x6 x7 x8 D395 hP h => ?_) hP h
      · refine hw_1 (fun k => x_aload_n dX4_fold_395 rfl k) ?_
        refine hw_1 (fun k => x_getf (v := 4103) dX4_fold_396 fl_X4_9 (hkS (D := D395) (show ga_K 4099 = (3, 0) from by decide +kernel) (by decide)) (hP.1 4099 1 4103 (by decide +kernel)) k) ?_
        refine hw_1 (fun k => x_iconst dX4_fold_399 (by decide) k) ?_
        refine hw_1 (fun k => x_dup2 dX4_fold_400 rfl rfl k) ?_
        replace h := ga_ck_some h; obtain ⟨hc401_0, h⟩ := h
        refine hw_1 (fun k => x_iald (v := D395 4103 0) dX4_fold_401 (hkS (D := D395) (show ga_K 4103 = (1000, 8) from by decide +kernel) (by decide)) hc401_0.1 hc401_0.2 rfl k) ?_
        refine hw_1 (fun k => x_iload_n dX4_fold_402 rfl k) ?_
        refine hw_1 (fun k => x_iadd dX4_fold_403 rfl k) ?_
        replace h := ga_ck_some h; obtain ⟨hc404_1, h⟩ := h
        replace h := ga_let_some h; obtain ⟨D404, eD404, h⟩ := h
        refine hw_set eD404 (by decide) hc404_1.1 (fun k => x_iast dX4_fold_404 (hkS (D := D395) (show ga_K 4103 = (1000, 8) from by decide +kernel) (by decide)) (by decide) hc404_1.1 hc404_1.2 k) ?_
        have hP404 : h_P D404 := hP.set eD404 (by decide) hc404_1.1 (hPn (hkS (D := D395) (show ga_K 4103 = (1000, 8) from by decide +kernel) (by decide)) rfl)
        have hE404 : h_E D395 D404 := h_E_set eD404 hc404_1.1
        refine hw_1 (fun k => x_aload_n dX4_fold_405 rfl k) ?_
        refine hw_1 (fun k => x_getf (v := 4103) dX4_fold_406 fl_X4_9 (hkS (D := D404) (show ga_K 4099 = (3, 0) from by decide +kernel) (by decide)) (hP404.1 4099 1 4103 (by decide +kernel)) k) ?_
        refine hw_1 (fun k => x_iconst dX4_fold_409 (by decide) k) ?_
        refine hw_1 (fun k => x_dup2 dX4_fold_410 rfl rfl k) ?_
        replace h := ga_ck_some h; obtain ⟨hc411_2, h⟩ := h
        refine hw_1 (fun k => x_iald (v := D404 4103 1) dX4_fold_411 (hkS (D := D404) (show ga_K 4103 = (1000, 8) from by decide +kernel) (by decide)) hc411_2.1 hc411_2.2 rfl k) ?_
        refine hw_1 (fun k => x_iload_n dX4_fold_412 rfl k) ?_
        refine hw_1 (fun k => x_iadd dX4_fold_413 rfl k) ?_
        replace h := ga_ck_some h; obtain ⟨hc414_3, h⟩ := h
        replace h := ga_let_some h; obtain ⟨D414, eD414, h⟩ := h
        refine hw_set eD414 (by decide) hc414_3.1 (fun k => x_iast dX4_fold_414 (hkS (D := D404) (show ga_K 4103 = (1000, 8) from by decide +kernel) (by decide)) (by decide) hc414_3.1 hc414_3.2 k) ?_
        have hP414 : h_P D414 := hP404.set eD414 (by decide) hc414_3.1 (hPn (hkS (D := D404) (show ga_K 4103 = (1000, 8) from by decide +kernel) (by decide)) rfl)
        have hE414 : h_E D404 D414 := h_E_set eD414 hc414_3.1
        refine hw_1 (fun k => x_aload_n dX4_fold_415 rfl k) ?_
        refine hw_1 (fun k => x_getf (v := 4103) dX4_fold_416 fl_X4_9 (hkS (D := D414) (show ga_K 4099 = (3, 0) from by decide +kernel) (by decide)) (hP414.1 4099 1 4103 (by decide +kernel)) k) ?_
        refine hw_1 (fun k => x_iconst dX4_fold_419 (by decide) k) ?_
        refine hw_1 (fun k => x_dup2 dX4_fold_420 rfl rfl k) ?_
        replace h := ga_ck_some h; obtain ⟨hc421_4, h⟩ := h
        refine hw_1 (fun k => x_iald (v := D414 4103 2) dX4_fold_421 (hkS (D := D414) (show ga_K 4103 = (1000, 8) from by decide +kernel) (by decide)) hc421_4.1 hc421_4.2 rfl k) ?_
        refine hw_1 (fun k => x_iload_n dX4_fold_422 rfl k) ?_
        refine hw_1 (fun k => x_iadd dX4_fold_423 rfl k) ?_
        replace h := ga_ck_some h; obtain ⟨hc424_5, h⟩ := h
        replace h := ga_let_some h; obtain ⟨D424, eD424, h⟩ := h
        refine hw_set eD424 (by decide) hc424_5.1 (fun k => x_iast dX4_fold_424 (hkS (D := D414) (show ga_K 4103 = (1000, 8) from by decide +kernel) (by decide)) (by decide) hc424_5.1 hc424_5.2 k) ?_
        have hP424 : h_P D424 := hP414.set eD424 (by decide) hc424_5.1 (hPn (hkS (D := D414) (show ga_K 4103 = (1000, 8) from by decide +kernel) (by decide)) rfl)
        have hE424 : h_E D414 D424 := h_E_set eD424 hc424_5.1
        refine hw_1 (fun k => x_aload_n dX4_fold_425 rfl k) ?_
        refine hw_1 (fun k => x_getf (v := 4103) dX4_fold_426 fl_X4_9 (hkS (D := D424) (show ga_K 4099 = (3, 0) from by decide +kernel) (by decide)) (hP424.1 4099 1 4103 (by decide +kernel)) k) ?_
        refine hw_1 (fun k => x_iconst dX4_fold_429 (by decide) k) ?_
        refine hw_1 (fun k => x_dup2 dX4_fold_430 rfl rfl k) ?_
        replace h := ga_ck_some h; obtain ⟨hc431_6, h⟩ := h
        refine hw_1 (fun k => x_iald (v := D424 4103 3) dX4_fold_431 (hkS (D := D424) (show ga_K 4103 = (1000, 8) from by decide +kernel) (by decide)) hc431_6.1 hc431_6.2 rfl k) ?_
        refine hw_1 (fun k => x_iload dX4_fold_432 rfl k) ?_
        refine hw_1 (fun k => x_iadd dX4_fold_434 rfl k) ?_
        replace h := ga_ck_some h; obtain ⟨hc435_7, h⟩ := h
        replace h := ga_let_some h; obtain ⟨D435, eD435, h⟩ := h
        refine hw_set eD435 (by decide) hc435_7.1 (fun k => x_iast dX4_fold_435 (hkS (D := D424) (show ga_K 4103 = (1000, 8) from by decide +kernel) (by decide)) (by decide) hc435_7.1 hc435_7.2 k) ?_
        have hP435 : h_P D435 := hP424.set eD435 (by decide) hc435_7.1 (hPn (hkS (D := D424) (show ga_K 4103 = (1000, 8) from by decide +kernel) (by decide)) rfl)
        have hE435 : h_E D424 D435 := h_E_set eD435 hc435_7.1
        refine hw_1 (fun k => x_aload_n dX4_fold_436 rfl k) ?_
        refine hw_1 (fun k => x_getf (v := 4103) dX4_fold_437 fl_X4_9 (hkS (D := D435) (show ga_K 4099 = (3, 0) from by decide +kernel) (by decide)) (hP435.1 4099 1 4103 (by decide +kernel)) k) ?_
        refine hw_1 (fun k => x_iconst dX4_fold_440 (by decide) k) ?_
        refine hw_1 (fun k => x_dup2 dX4_fold_441 rfl rfl k) ?_
        replace h := ga_ck_some h; obtain ⟨hc442_8, h⟩ := h
        refine hw_1 (fun k => x_iald (v := D435 4103 4) dX4_fold_442 (hkS (D := D435) (show ga_K 4103 = (1000, 8) from by decide +kernel) (by decide)) hc442_8.1 hc442_8.2 rfl k) ?_
        refine hw_1 (fun k => x_iload dX4_fold_443 rfl k) ?_
        refine hw_1 (fun k => x_iadd dX4_fold_445 rfl k) ?_
        replace h := ga_ck_some h; obtain ⟨hc446_9, h⟩ := h
        replace h := ga_let_some h; obtain ⟨D446, eD446, h⟩ := h
        refine hw_set eD446 (by decide) hc446_9.1 (fun k => x_iast dX4_fold_446 (hkS (D := D435) (show ga_K 4103 = (1000, 8) from by decide +kernel) (by decide)) (by decide) hc446_9.1 hc446_9.2 k) ?_
        have hP446 : h_P D446 := hP435.set eD446 (by decide) hc446_9.1 (hPn (hkS (D := D435) (show ga_K 4103 = (1000, 8) from by decide +kernel) (by decide)) rfl)
        have hE446 : h_E D435 D446 := h_E_set eD446 hc446_9.1
        refine hw_1 (fun k => x_aload_n dX4_fold_447 rfl k) ?_
        refine hw_1 (fun k => x_getf (v := 4103) dX4_fold_448 fl_X4_9 (hkS (D := D446) (show ga_K 4099 = (3, 0) from by decide +kernel) (by decide)) (hP446.1 4099 1 4103 (by decide +kernel)) k) ?_
        refine hw_1 (fun k => x_iconst dX4_fold_451 (by decide) k) ?_
        refine hw_1 (fun k => x_dup2 dX4_fold_452 rfl rfl k) ?_
        replace h := ga_ck_some h; obtain ⟨hc453_10, h⟩ := h
        refine hw_1 (fun k => x_iald (v := D446 4103 5) dX4_fold_453 (hkS (D := D446) (show ga_K 4103 = (1000, 8) from by decide +kernel) (by decide)) hc453_10.1 hc453_10.2 rfl k) ?_
        refine hw_1 (fun k => x_iload dX4_fold_454 rfl k) ?_
        refine hw_1 (fun k => x_iadd dX4_fold_456 rfl k) ?_
        replace h := ga_ck_some h; obtain ⟨hc457_11, h⟩ := h
        replace h := ga_let_some h; obtain ⟨D457, eD457, h⟩ := h
        refine hw_set eD457 (by decide) hc457_11.1 (fun k => x_iast dX4_fold_457 (hkS (D := D446) (show ga_K 4103 = (1000, 8) from by decide +kernel) (by decide)) (by decide) hc457_11.1 hc457_11.2 k) ?_
        have hP457 : h_P D457 := hP446.set eD457 (by decide) hc457_11.1 (hPn (hkS (D := D446) (show ga_K 4103 = (1000, 8) from by decide +kernel) (by decide)) rfl)
        have hE457 : h_E D446 D457 := h_E_set eD457 hc457_11.1
        refine hw_1 (fun k => x_aload_n dX4_fold_458 rfl k) ?_
        refine hw_1 (fun k => x_getf (v := 4103) dX4_fold_459 fl_X4_9 (hkS (D := D457) (show ga_K 4099 = (3, 0) from by decide +kernel) (by decide)) (hP457.1 4099 1 4103 (by decide +kernel)) k) ?_
        refine hw_1 (fun k => x_bipush dX4_fold_462 (by decide) k) ?_
        refine hw_1 (fun k => x_dup2 dX4_fold_464 rfl rfl k) ?_
        replace h := ga_ck_some h; obtain ⟨hc465_12, h⟩ := h
        refine hw_1 (fun k => x_iald (v := D457 4103 6) dX4_fold_465 (hkS (D := D457) (show ga_K 4103 = (1000, 8) from by decide +kernel) (by decide)) hc465_12.1 hc465_12.2 rfl k) ?_
        refine hw_1 (fun k => x_iload dX4_fold_466 rfl k) ?_
        refine hw_1 (fun k => x_iadd dX4_fold_468 rfl k) ?_
        replace h := ga_ck_some h; obtain ⟨hc469_13, h⟩ := h
        replace h := ga_let_some h; obtain ⟨D469, eD469, h⟩ := h
        refine hw_set eD469 (by decide) hc469_13.1 (fun k => x_iast dX4_fold_469 (hkS (D := D457) (show ga_K 4103 = (1000, 8) from by decide +kernel) (by decide)) (by decide) hc469_13.1 hc469_13.2 k) ?_
        have hP469 : h_P D469 := hP457.set eD469 (by decide) hc469_13.1 (hPn (hkS (D := D457) (show ga_K 4103 = (1000, 8) from by decide +kernel) (by decide)) rfl)
        have hE469 : h_E D457 D469 := h_E_set eD469 hc469_13.1
        refine hw_1 (fun k => x_aload_n dX4_fold_470 rfl k) ?_
        refine hw_1 (fun k => x_getf (v := 4103) dX4_fold_471 fl_X4_9 (hkS (D := D469) (show ga_K 4099 = (3, 0) from by decide +kernel) (by decide)) (hP469.1 4099 1 4103 (by decide +kernel)) k) ?_
        refine hw_1 (fun k => x_bipush dX4_fold_474 (by decide) k) ?_
        refine hw_1 (fun k => x_dup2 dX4_fold_476 rfl rfl k) ?_
        replace h := ga_ck_some h; obtain ⟨hc477_14, h⟩ := h
        refine hw_1 (fun k => x_iald (v := D469 4103 7) dX4_fold_477 (hkS (D := D469) (show ga_K 4103 = (1000, 8) from by decide +kernel) (by decide)) hc477_14.1 hc477_14.2 rfl k) ?_
        refine hw_1 (fun k => x_iload dX4_fold_478 rfl k) ?_
        refine hw_1 (fun k => x_iadd dX4_fold_480 rfl k) ?_
        replace h := ga_ck_some h; obtain ⟨hc481_15, h⟩ := h
        replace h := ga_let_some h; obtain ⟨D481, eD481, h⟩ := h
        refine hw_set eD481 (by decide) hc481_15.1 (fun k => x_iast dX4_fold_481 (hkS (D := D469) (show ga_K 4103 = (1000, 8) from by decide +kernel) (by decide)) (by decide) hc481_15.1 hc481_15.2 k) ?_
        have hP481 : h_P D481 := hP469.set eD481 (by decide) hc481_15.1 (hPn (hkS (D := D469) (show ga_K 4103 = (1000, 8) from by decide +kernel) (by decide)) rfl)
        have hE481 : h_E D469 D481 := h_E_set eD481 hc481_15.1
        obtain ⟨rfl, rfl⟩ := ga_end h
        exact hw_ret hP481 (x_vret dX4_fold_482 rfl hq)
theorem h_X4_take_2_ok {G : aw_G} {D D' : ga_D} {r : Int} {x1 : Int} (hP : h_P D) (h : h_X4_take_2 x1 D = some (r, D')) : aw_HR yX4_take_2 cX4_take_2 3 none 2 G [(2, 4099), (0, x1)] D none D' := by
  unfold h_X4_take_2 at h
  refine hw_body (own := "WasteHouse$TicketChain$Sum") (ini := false) (ls := [(0, (2, 4099)), (1, (0, x1))]) rfl rfl (fun h => by cases h) (Nat.le_of_ble_eq_true rfl) rfl fun Q hq => ?_
  refine hw_1 (fun k => x_aload_n dX4_take_2_0 rfl k) ?_
  refine hw_1 (fun k => x_getf (v := D 4099 4) dX4_take_2_1 fl_X4_37 (hkS (D := D) (show ga_K 4099 = (3, 0) from by decide +kernel) (by decide)) rfl k) ?_
  refine hw_1 (fun k => x_ldc2 (z := 63) dX4_take_2_4 q5199 (by decide) k) ?_
  refine hw_1 (fun k => x_land dX4_take_2_7 rfl k) ?_
  refine hw_1 (fun k => x_l2i dX4_take_2_8 rfl k) ?_
  replace h := ga_let_some h; obtain ⟨v9, ev9, h⟩ := h
  refine hw_nm ev9 ?_
  refine hw_1 (fun k => x_istore_n (ls' := [(2, (0, v9)), (0, (2, 4099)), (1, (0, x1))]) dX4_take_2_9 (by decide) rfl k) ?_
  refine hw_1 (fun k => x_aload_n dX4_take_2_10 rfl k) ?_
  refine hw_1 (fun k => x_getf (v := 4105) dX4_take_2_11 fl_X4_18 (hkS (D := D) (show ga_K 4099 = (3, 0) from by decide +kernel) (by decide)) (hP.1 4099 3 4105 (by decide +kernel)) k) ?_
  refine hw_1 (fun k => x_iload_n dX4_take_2_14 rfl k) ?_
  refine hw_1 (fun k => x_iload_n dX4_take_2_15 rfl k) ?_
  refine hw_1 (fun k => x_i2b dX4_take_2_16 rfl k) ?_
  replace h := ga_ck_some h; obtain ⟨hc17_0, h⟩ := h
  replace h := ga_let_some h; obtain ⟨D17, eD17, h⟩ := h
  refine hw_set eD17 (by decide) hc17_0.1 (fun k => x_bast dX4_take_2_17 (hkS (D := D) (show ga_K 4105 = (1002, 64) from by decide +kernel) (by decide)) (by decide) hc17_0.1 hc17_0.2.1 hc17_0.2.2 k) ?_
  have hP17 : h_P D17 := hP.set eD17 (by decide) hc17_0.1 (hPn (hkS (D := D) (show ga_K 4105 = (1002, 64) from by decide +kernel) (by decide)) rfl)
  have hE17 : h_E D D17 := h_E_set eD17 hc17_0.1
  refine hw_1 (fun k => x_aload_n dX4_take_2_18 rfl k) ?_
  refine hw_1 (fun k => x_dup dX4_take_2_19 rfl k) ?_
  refine hw_1 (fun k => x_getf (v := D17 4099 4) dX4_take_2_20 fl_X4_37 (hkS (D := D17) (show ga_K 4099 = (3, 0) from by decide +kernel) (by decide)) rfl k) ?_
  refine hw_1 (fun k => x_lconst (v := 1) dX4_take_2_23 rfl k) ?_
  refine hw_1 (fun k => x_ladd dX4_take_2_24 rfl k) ?_
  replace h := ga_let_some h; obtain ⟨D25, eD25, h⟩ := h
  refine hw_set eD25 (by decide) (by decide) (fun k => x_putf dX4_take_2_25 fl_X4_37 rfl (hkS (D := D17) (show ga_K 4099 = (3, 0) from by decide +kernel) (by decide)) (by decide) trivial k) ?_
  have hP25 : h_P D25 := hP17.set eD25 (by decide) (by decide) (hPn (hkS (D := D17) (show ga_K 4099 = (3, 0) from by decide +kernel) (by decide)) rfl)
  have hE25 : h_E D17 D25 := h_E_set eD25 (by decide)
  refine hw_1 (fun k => x_iload_n dX4_take_2_28 rfl k) ?_
  refine hw_1 (fun k => x_bipush dX4_take_2_29 (by decide) k) ?_
  by_cases c31 : v9 ≠ 63
  · rw [if_pos c31] at h
    refine hw_1 (fun k => x_icmp_ne (tgt := 38) dX4_take_2_31 (by decide) (fun _ => k) (fun z => absurd c31 z)) ?_
    obtain ⟨rfl, rfl⟩ := ga_end h
    exact hw_ret hP25 (x_vret dX4_take_2_38 rfl hq)
  · rw [if_neg c31] at h
    refine hw_1 (fun k => x_icmp_ne (tgt := 38) dX4_take_2_31 (by decide) (fun z => absurd z c31) (fun _ => k)) ?_
    refine hw_1 (fun k => x_aload_n dX4_take_2_34 rfl k) ?_
    replace h := ga_bind_some h; obtain ⟨r35, D35, g35, h⟩ := h
    have hR35 := (h_X4_fold_ok (G := G) hP25 g35)
    obtain ⟨hP35, hE35, -⟩ := id hR35
    refine hw_call (rest := []) hR35 (fun hc hk9 => x_callV (as := []) (rest := []) dX4_take_2_35 hc (lw_V q5200 q5202 qs80 q396 q5203) (hkS (D := D25) (show ga_K 4099 = (3, 0) from by decide +kernel) (by decide)) rfl rfl (show _ ∧ _ ∧ _ ∧ _ = some 0 from by decide +kernel) (by decide) (by decide) rfl (Nat.le_of_ble_eq_true rfl) hk9 aw_nox) ?_
    obtain ⟨rfl, rfl⟩ := ga_end h
    exact hw_ret hP35 (x_vret dX4_take_2_38 rfl hq)
theorem h_X4_take_l3_ok {G : aw_G} {M0 : aw_M} {D' : ga_D} {Q : Option aw_V → aw_M → Prop} {r : Int} (hq : Q none (hM D')) {k25 : ga_D → ga_S} (hk25 : ∀ (D : ga_D), h_P D → k25 D = some (r, D') → aw_HW G "WasteHouse$TicketChain$Sum" cX4_take none 5 3 false M0 Q aw_no D' (hn D') (hsl D') 25 [] [] D) : ∀ {n : Nat} {x1 x2 x3 x4 : Int} {D : ga_D}, h_P D → h_X4_take_l3 n x1 x2 x3 x4 D k25 = some (r, D') → aw_HW G "WasteHouse$TicketChain$Sum" cX4_take none 5 3 false M0 Q aw_no D' (hn D') (hsl D') 3 [(0, (2, 4099)), (1, (2, x1)), (2, (0, x2)), (3, (0, x3)), (4, (0, x4))] [] D := by
  intro n
  induction n with
  | zero => intro x1 x2 x3 x4 D hP h; exact absurd (h : (none : ga_S) = some (r, D')) (by intro h; cases h)
  | succ n ih =>
    intro x1 x2 x3 x4 D hP h
    have ih : ∀ (x1 x2 x3 x4 : Int) (D : ga_D), h_P D → h_X4_take_l3 n x1 x2 x3 x4 D k25 = some (r, D') → aw_HW G "WasteHouse$TicketChain$Sum" cX4_take none 5 3 false M0 Q aw_no D' (hn D') (hsl D') 3 [(0, (2, 4099)), (1, (2, x1)), (2, (0, x2)), (3, (0, x3)), (4, (0, x4))] [] D := fun x1 x2 x3 x4 D hP h => ih hP h
    replace h : (if x3 ≤ x4 then (k25 D) else (ga_ck ((hk D x1).1 = 1002) (ga_ck (0 ≤ aw_w32 (x2 + x4) ∧ aw_w32 (x2 + x4) < (hk D x1).2) (ga_bind (h_X4_take_2 (D x1 (aw_w32 (x2 + x4))) D) (fun r16 D16 => ga_let (aw_w32 (x4 + 1)) (fun v19 => h_X4_take_l3 n x1 x2 x3 v19 D16 k25))))) : ga_S) = some (r, D') := h
    refine hw_1 (fun k => x_iload dX4_take_3 rfl k) ?_
    refine hw_1 (fun k => x_iload_n dX4_take_5 rfl k) ?_
    by_cases c6 : x3 ≤ x4
    · rw [if_pos c6] at h
      refine hw_1 (fun k => x_icmp_ge (tgt := 25) dX4_take_6 (by decide) (fun _ => k) (fun z => absurd c6 z)) ?_
      refine hw_locs [] (ls' := []) rfl ?_
      exact hk25 _ hP h
    · rw [if_neg c6] at h
      refine hw_1 (fun k => x_icmp_ge (tgt := 25) dX4_take_6 (by decide) (fun z => absurd z c6) (fun _ => k)) ?_
      refine hw_1 (fun k => x_aload_n dX4_take_9 rfl k) ?_
      refine hw_1 (fun k => x_aload_n dX4_take_10 rfl k) ?_
      refine hw_1 (fun k => x_iload_n dX4_take_11 rfl k) ?_
      refine hw_1 (fun k => x_iload dX4_take_12 rfl k) ?_
      refine hw_1 (fun k => x_iadd dX4_take_14 rfl k) ?_
      replace h := ga_ck_some h; obtain ⟨hc15_0, h⟩ := h
      replace h := ga_ck_some h; obtain ⟨hc15_1, h⟩ := h
      refine hw_1 (fun k => x_bald (v := D x1 (aw_w32 (x2 + x4))) dX4_take_15 (hk_p hc15_0) hc15_1.1 hc15_1.2 rfl k) ?_
      replace h := ga_bind_some h; obtain ⟨r16, D16, g16, h⟩ := h
      have hR16 := (h_X4_take_2_ok (G := G) hP g16)
      obtain ⟨hP16, hE16, -⟩ := id hR16
      refine hw_call (rest := []) hR16 (fun hc hk9 => x_callV (as := [(0, D x1 (aw_w32 (x2 + x4)))]) (rest := []) dX4_take_16 hc (lw_V q5195 q5196 q5197 q396 q5198) (hkS (D := D) (show ga_K 4099 = (3, 0) from by decide +kernel) (by decide)) rfl rfl (show _ ∧ _ ∧ _ ∧ _ = some 1 from by decide +kernel) (by decide) (by decide) rfl (Nat.le_of_ble_eq_true rfl) hk9 aw_nox) ?_
      replace h := ga_let_some h; obtain ⟨v19, ev19, h⟩ := h
      refine hw_1 (fun k => x_iinc (ls' := [(4, (0, v19)), (0, (2, 4099)), (1, (2, x1)), (2, (0, x2)), (3, (0, x3))]) dX4_take_19 rfl ev19.symm (by decide) rfl k) ?_
      refine hw_1 (fun k => x_goto (tgt := 3) dX4_take_22 (by decide) k) ?_
      refine hw_locs [1, 2, 3, 4, 0] (ls' := [(0, (2, 4099)), (1, (2, x1)), (2, (0, x2)), (3, (0, x3)), (4, (0, v19))]) rfl ?_
      exact ih _ _ _ _ _ hP16 h
theorem h_X4_take_ok {G : aw_G} {D D' : ga_D} {r : Int} {x1 x2 x3 : Int} (hP : h_P D) (h : h_X4_take x1 x2 x3 D = some (r, D')) : aw_HR yX4_take cX4_take 5 none 3 G [(2, 4099), (2, x1), (0, x2), (0, x3)] D none D' := by
  unfold h_X4_take at h
  refine hw_body (own := "WasteHouse$TicketChain$Sum") (ini := false) (ls := [(0, (2, 4099)), (1, (2, x1)), (2, (0, x2)), (3, (0, x3))]) rfl rfl (fun h => by cases h) (Nat.le_of_ble_eq_true rfl) rfl fun Q hq => ?_
  refine hw_1 (fun k => x_iconst dX4_take_0 (by decide) k) ?_
  refine hw_1 (fun k => x_istore (ls' := [(4, (0, 0)), (0, (2, 4099)), (1, (2, x1)), (2, (0, x2)), (3, (0, x3))]) dX4_take_1 (by decide) rfl k) ?_
  refine hw_locs [1, 2, 3, 4, 0] (ls' := [(0, (2, 4099)), (1, (2, x1)), (2, (0, x2)), (3, (0, x3)), (4, (0, 0))]) rfl ?_
  refine h_X4_take_l3_ok hq (fun D25 hP h => ?_) hP h
  · obtain ⟨rfl, rfl⟩ := ga_end h
    exact hw_ret hP (x_vret dX4_take_25 rfl hq)
theorem h_X4_end_l16_ok {G : aw_G} {M0 : aw_M} {D' : ga_D} {Q : Option aw_V → aw_M → Prop} {r : Int} (hq : Q none (hM D')) {k39 : Int → Int → Int → ga_D → ga_S} (hk39 : ∀ (x1 x2 x3 : Int) (D : ga_D), h_P D → k39 x1 x2 x3 D = some (r, D') → aw_HW G "WasteHouse$TicketChain$Sum" cX4_end none 6 3 false M0 Q aw_no D' (hn D') (hsl D') 39 [(0, (2, 4099)), (1, (2, x1)), (2, (0, x2)), (3, (1, x3))] [] D) : ∀ {n : Nat} {x1 x2 x3 : Int} {D : ga_D}, h_P D → h_X4_end_l16 n x1 x2 x3 D k39 = some (r, D') → aw_HW G "WasteHouse$TicketChain$Sum" cX4_end none 6 3 false M0 Q aw_no D' (hn D') (hsl D') 16 [(0, (2, 4099)), (1, (2, x1)), (2, (0, x2)), (3, (1, x3))] [] D := by
  intro n
  induction n with
  | zero => intro x1 x2 x3 D hP h; exact absurd (h : (none : ga_S) = some (r, D')) (by intro h; cases h)
  | succ n ih =>
    intro x1 x2 x3 D hP h
    have ih : ∀ (x1 x2 x3 : Int) (D : ga_D), h_P D → h_X4_end_l16 n x1 x2 x3 D k39 = some (r, D') → aw_HW G "WasteHouse$TicketChain$Sum" cX4_end none 6 3 false M0 Q aw_no D' (hn D') (hsl D') 16 [(0, (2, 4099)), (1, (2, x1)), (2, (0, x2)), (3, (1, x3))] [] D := fun x1 x2 x3 D hP h => ih hP h
    replace h : (if aw_land (D 4099 4) 63 = 56 then (k39 x1 x2 x3 D) else (ga_bind (h_X4_take_2 0 D) (fun r33 D33 => h_X4_end_l16 n x1 x2 x3 D33 k39)) : ga_S) = some (r, D') := h
    refine hw_1 (fun k => x_aload_n dX4_end_16 rfl k) ?_
    refine hw_1 (fun k => x_getf (v := D 4099 4) dX4_end_17 fl_X4_37 (hkS (D := D) (show ga_K 4099 = (3, 0) from by decide +kernel) (by decide)) rfl k) ?_
    refine hw_1 (fun k => x_ldc2 (z := 63) dX4_end_20 q5199 (by decide) k) ?_
    refine hw_1 (fun k => x_land dX4_end_23 rfl k) ?_
    refine hw_1 (fun k => x_ldc2 (z := 56) dX4_end_24 q5213 (by decide) k) ?_
    refine hw_1 (fun k => x_lcmp dX4_end_27 rfl k) ?_
    by_cases c28 : aw_land (D 4099 4) 63 = 56
    · rw [if_pos c28] at h
      refine hw_1 (fun k => x_if_eq (tgt := 39) dX4_end_28 (by decide) (fun _ => k) (fun z => absurd (cmi_eq.mpr c28) z)) ?_
      exact hk39 _ _ _ _ hP h
    · rw [if_neg c28] at h
      refine hw_1 (fun k => x_if_eq (tgt := 39) dX4_end_28 (by decide) (fun z => absurd (cmi_eq.mp z) c28) (fun _ => k)) ?_
      refine hw_1 (fun k => x_aload_n dX4_end_31 rfl k) ?_
      refine hw_1 (fun k => x_iconst dX4_end_32 (by decide) k) ?_
      replace h := ga_bind_some h; obtain ⟨r33, D33, g33, h⟩ := h
      have hR33 := (h_X4_take_2_ok (G := G) hP g33)
      obtain ⟨hP33, hE33, -⟩ := id hR33
      refine hw_call (rest := []) hR33 (fun hc hk9 => x_callV (as := [(0, 0)]) (rest := []) dX4_end_33 hc (lw_V q5195 q5196 q5197 q396 q5198) (hkS (D := D) (show ga_K 4099 = (3, 0) from by decide +kernel) (by decide)) rfl rfl (show _ ∧ _ ∧ _ ∧ _ = some 1 from by decide +kernel) (by decide) (by decide) rfl (Nat.le_of_ble_eq_true rfl) hk9 aw_nox) ?_
      refine hw_1 (fun k => x_goto (tgt := 16) dX4_end_36 (by decide) k) ?_
      exact ih _ _ _ _ hP33 h
theorem h_X4_end_l43_ok {G : aw_G} {M0 : aw_M} {D' : ga_D} {Q : Option aw_V → aw_M → Prop} {r : Int} (hq : Q none (hM D')) {k63 : Int → Int → ga_D → ga_S} (hk63 : ∀ (x1 x2 : Int) (D : ga_D), h_P D → k63 x1 x2 D = some (r, D') → aw_HW G "WasteHouse$TicketChain$Sum" cX4_end none 6 3 false M0 Q aw_no D' (hn D') (hsl D') 63 [(0, (2, 4099)), (1, (2, x1)), (2, (0, x2))] [] D) : ∀ {n : Nat} {x1 x2 x3 x5 : Int} {D : ga_D}, h_P D → h_X4_end_l43 n x1 x2 x3 x5 D k63 = some (r, D') → aw_HW G "WasteHouse$TicketChain$Sum" cX4_end none 6 3 false M0 Q aw_no D' (hn D') (hsl D') 43 [(0, (2, 4099)), (1, (2, x1)), (2, (0, x2)), (3, (1, x3)), (5, (0, x5))] [] D := by
  intro n
  induction n with
  | zero => intro x1 x2 x3 x5 D hP h; exact absurd (h : (none : ga_S) = some (r, D')) (by intro h; cases h)
  | succ n ih =>
    intro x1 x2 x3 x5 D hP h
    have ih : ∀ (x1 x2 x3 x5 : Int) (D : ga_D), h_P D → h_X4_end_l43 n x1 x2 x3 x5 D k63 = some (r, D') → aw_HW G "WasteHouse$TicketChain$Sum" cX4_end none 6 3 false M0 Q aw_no D' (hn D') (hsl D') 43 [(0, (2, 4099)), (1, (2, x1)), (2, (0, x2)), (3, (1, x3)), (5, (0, x5))] [] D := fun x1 x2 x3 x5 D hP h => ih hP h
    replace h : (if x5 < 0 then (k63 x1 x2 D) else (ga_bind (h_X4_take_2 (aw_w32 (aw_lushr x3 x5)) D) (fun r54 D54 => ga_let (aw_w32 (x5 + (-8))) (fun v57 => h_X4_end_l43 n x1 x2 x3 v57 D54 k63))) : ga_S) = some (r, D') := h
    refine hw_1 (fun k => x_iload dX4_end_43 rfl k) ?_
    by_cases c45 : x5 < 0
    · rw [if_pos c45] at h
      refine hw_1 (fun k => x_if_lt (tgt := 63) dX4_end_45 (by decide) (fun _ => k) (fun z => absurd c45 z)) ?_
      refine hw_locs [0, 1, 2] (ls' := [(0, (2, 4099)), (1, (2, x1)), (2, (0, x2))]) rfl ?_
      exact hk63 _ _ _ hP h
    · rw [if_neg c45] at h
      refine hw_1 (fun k => x_if_lt (tgt := 63) dX4_end_45 (by decide) (fun z => absurd z c45) (fun _ => k)) ?_
      refine hw_1 (fun k => x_aload_n dX4_end_48 rfl k) ?_
      refine hw_1 (fun k => x_lload_n dX4_end_49 rfl k) ?_
      refine hw_1 (fun k => x_iload dX4_end_50 rfl k) ?_
      refine hw_1 (fun k => x_lushr dX4_end_52 rfl k) ?_
      refine hw_1 (fun k => x_l2i dX4_end_53 rfl k) ?_
      replace h := ga_bind_some h; obtain ⟨r54, D54, g54, h⟩ := h
      have hR54 := (h_X4_take_2_ok (G := G) hP g54)
      obtain ⟨hP54, hE54, -⟩ := id hR54
      refine hw_call (rest := []) hR54 (fun hc hk9 => x_callV (as := [(0, aw_w32 (aw_lushr x3 x5))]) (rest := []) dX4_end_54 hc (lw_V q5195 q5196 q5197 q396 q5198) (hkS (D := D) (show ga_K 4099 = (3, 0) from by decide +kernel) (by decide)) rfl rfl (show _ ∧ _ ∧ _ ∧ _ = some 1 from by decide +kernel) (by decide) (by decide) rfl (Nat.le_of_ble_eq_true rfl) hk9 aw_nox) ?_
      replace h := ga_let_some h; obtain ⟨v57, ev57, h⟩ := h
      refine hw_1 (fun k => x_iinc (ls' := [(5, (0, v57)), (0, (2, 4099)), (1, (2, x1)), (2, (0, x2)), (3, (1, x3))]) dX4_end_57 rfl ev57.symm (by decide) rfl k) ?_
      refine hw_1 (fun k => x_goto (tgt := 43) dX4_end_60 (by decide) k) ?_
      refine hw_locs [1, 2, 3, 4, 0] (ls' := [(0, (2, 4099)), (1, (2, x1)), (2, (0, x2)), (3, (1, x3)), (5, (0, v57))]) rfl ?_
      exact ih _ _ _ _ _ hP54 h
theorem h_X4_end_l66_ok {G : aw_G} {M0 : aw_M} {D' : ga_D} {Q : Option aw_V → aw_M → Prop} {r : Int} (hq : Q none (hM D')) {k106 : ga_D → ga_S} (hk106 : ∀ (D : ga_D), h_P D → k106 D = some (r, D') → aw_HW G "WasteHouse$TicketChain$Sum" cX4_end none 6 3 false M0 Q aw_no D' (hn D') (hsl D') 106 [] [] D) : ∀ {n : Nat} {x1 x2 x5 : Int} {D : ga_D}, h_P D → h_X4_end_l66 n x1 x2 x5 D k106 = some (r, D') → aw_HW G "WasteHouse$TicketChain$Sum" cX4_end none 6 3 false M0 Q aw_no D' (hn D') (hsl D') 66 [(0, (2, 4099)), (1, (2, x1)), (2, (0, x2)), (5, (0, x5))] [] D := by
  intro n
  induction n with
  | zero => intro x1 x2 x5 D hP h; exact absurd (h : (none : ga_S) = some (r, D')) (by intro h; cases h)
  | succ n ih =>
    intro x1 x2 x5 D hP h
    have ih : ∀ (x1 x2 x5 : Int) (D : ga_D), h_P D → h_X4_end_l66 n x1 x2 x5 D k106 = some (r, D') → aw_HW G "WasteHouse$TicketChain$Sum" cX4_end none 6 3 false M0 Q aw_no D' (hn D') (hsl D') 66 [(0, (2, 4099)), (1, (2, x1)), (2, (0, x2)), (5, (0, x5))] [] D := fun x1 x2 x5 D hP h => ih hP h
    replace h : (if 32 ≤ x5 then (k106 D) else (ga_ck (0 ≤ aw_shr x5 2 ∧ aw_shr x5 2 < 8) (ga_ck ((hk D x1).1 = 1002) (ga_ck (4096 ≤ x1) (ga_ck (0 ≤ aw_w32 (x2 + x5) ∧ aw_w32 (x2 + x5) < (hk D x1).2 ∧ (-128) ≤ aw_i2b (aw_ushr (D 4103 (aw_shr x5 2)) (aw_w32 (24 - (aw_w32 (8 * (aw_and x5 3)))))) ∧ aw_i2b (aw_ushr (D 4103 (aw_shr x5 2)) (aw_w32 (24 - (aw_w32 (8 * (aw_and x5 3)))))) < 128) (ga_let (ga_set D x1 (aw_w32 (x2 + x5)) (aw_i2b (aw_ushr (D 4103 (aw_shr x5 2)) (aw_w32 (24 - (aw_w32 (8 * (aw_and x5 3)))))))) (fun D99 => ga_let (aw_w32 (x5 + 1)) (fun v100 => h_X4_end_l66 n x1 x2 v100 D99 k106))))))) : ga_S) = some (r, D') := h
    refine hw_1 (fun k => x_iload dX4_end_66 rfl k) ?_
    refine hw_1 (fun k => x_bipush dX4_end_68 (by decide) k) ?_
    by_cases c70 : 32 ≤ x5
    · rw [if_pos c70] at h
      refine hw_1 (fun k => x_icmp_ge (tgt := 106) dX4_end_70 (by decide) (fun _ => k) (fun z => absurd c70 z)) ?_
      refine hw_locs [] (ls' := []) rfl ?_
      exact hk106 _ hP h
    · rw [if_neg c70] at h
      refine hw_1 (fun k => x_icmp_ge (tgt := 106) dX4_end_70 (by decide) (fun z => absurd z c70) (fun _ => k)) ?_
      refine hw_1 (fun k => x_aload_n dX4_end_73 rfl k) ?_
      refine hw_1 (fun k => x_iload_n dX4_end_74 rfl k) ?_
      refine hw_1 (fun k => x_iload dX4_end_75 rfl k) ?_
      refine hw_1 (fun k => x_iadd dX4_end_77 rfl k) ?_
      refine hw_1 (fun k => x_aload_n dX4_end_78 rfl k) ?_
      refine hw_1 (fun k => x_getf (v := 4103) dX4_end_79 fl_X4_9 (hkS (D := D) (show ga_K 4099 = (3, 0) from by decide +kernel) (by decide)) (hP.1 4099 1 4103 (by decide +kernel)) k) ?_
      refine hw_1 (fun k => x_iload dX4_end_82 rfl k) ?_
      refine hw_1 (fun k => x_iconst dX4_end_84 (by decide) k) ?_
      refine hw_1 (fun k => x_ishr dX4_end_85 rfl k) ?_
      replace h := ga_ck_some h; obtain ⟨hc86_0, h⟩ := h
      refine hw_1 (fun k => x_iald (v := D 4103 (aw_shr x5 2)) dX4_end_86 (hkS (D := D) (show ga_K 4103 = (1000, 8) from by decide +kernel) (by decide)) hc86_0.1 hc86_0.2 rfl k) ?_
      refine hw_1 (fun k => x_bipush dX4_end_87 (by decide) k) ?_
      refine hw_1 (fun k => x_bipush dX4_end_89 (by decide) k) ?_
      refine hw_1 (fun k => x_iload dX4_end_91 rfl k) ?_
      refine hw_1 (fun k => x_iconst dX4_end_93 (by decide) k) ?_
      refine hw_1 (fun k => x_iand dX4_end_94 rfl k) ?_
      refine hw_1 (fun k => x_imul dX4_end_95 rfl k) ?_
      refine hw_1 (fun k => x_isub dX4_end_96 rfl k) ?_
      refine hw_1 (fun k => x_iushr dX4_end_97 rfl k) ?_
      refine hw_1 (fun k => x_i2b dX4_end_98 rfl k) ?_
      replace h := ga_ck_some h; obtain ⟨hc99_1, h⟩ := h
      replace h := ga_ck_some h; obtain ⟨hc99_2, h⟩ := h
      replace h := ga_ck_some h; obtain ⟨hc99_3, h⟩ := h
      replace h := ga_let_some h; obtain ⟨D99, eD99, h⟩ := h
      refine hw_set eD99 (Int.le_trans (by decide) hc99_2) hc99_3.1 (fun k => x_bast dX4_end_99 (hk_p hc99_1) hc99_2 hc99_3.1 hc99_3.2.1 hc99_3.2.2 k) ?_
      have hP99 : h_P D99 := hP.set eD99 hc99_2 hc99_3.1 (hPn (hk_p hc99_1) rfl)
      have hE99 : h_E D D99 := h_E_set eD99 hc99_3.1
      replace h := ga_let_some h; obtain ⟨v100, ev100, h⟩ := h
      refine hw_1 (fun k => x_iinc (ls' := [(5, (0, v100)), (0, (2, 4099)), (1, (2, x1)), (2, (0, x2))]) dX4_end_100 rfl ev100.symm (by decide) rfl k) ?_
      refine hw_1 (fun k => x_goto (tgt := 66) dX4_end_103 (by decide) k) ?_
      refine hw_locs [1, 2, 3, 0] (ls' := [(0, (2, 4099)), (1, (2, x1)), (2, (0, x2)), (5, (0, v100))]) rfl ?_
      exact ih _ _ _ _ hP99 h
theorem h_X4_end_ok {G : aw_G} {D D' : ga_D} {r : Int} {x1 x2 : Int} (hP : h_P D) (h : h_X4_end x1 x2 D = some (r, D')) : aw_HR yX4_end cX4_end 6 none 3 G [(2, 4099), (2, x1), (0, x2)] D none D' := by
  unfold h_X4_end at h
  refine hw_body (own := "WasteHouse$TicketChain$Sum") (ini := false) (ls := [(0, (2, 4099)), (1, (2, x1)), (2, (0, x2))]) rfl rfl (fun h => by cases h) (Nat.le_of_ble_eq_true rfl) rfl fun Q hq => ?_
  refine hw_1 (fun k => x_ldc2 (z := 8) dX4_end_0 q5212 (by decide) k) ?_
  refine hw_1 (fun k => x_aload_n dX4_end_3 rfl k) ?_
  refine hw_1 (fun k => x_getf (v := D 4099 4) dX4_end_4 fl_X4_37 (hkS (D := D) (show ga_K 4099 = (3, 0) from by decide +kernel) (by decide)) rfl k) ?_
  refine hw_1 (fun k => x_lmul dX4_end_7 rfl k) ?_
  replace h := ga_let_some h; obtain ⟨v8, ev8, h⟩ := h
  refine hw_nm ev8 ?_
  refine hw_1 (fun k => x_lstore_n (ls' := [(3, (1, v8)), (0, (2, 4099)), (1, (2, x1)), (2, (0, x2))]) dX4_end_8 (by decide) rfl k) ?_
  refine hw_1 (fun k => x_aload_n dX4_end_9 rfl k) ?_
  refine hw_1 (fun k => x_sipush dX4_end_10 (by decide) k) ?_
  replace h := ga_bind_some h; obtain ⟨r13, D13, g13, h⟩ := h
  have hR13 := (h_X4_take_2_ok (G := G) hP g13)
  obtain ⟨hP13, hE13, -⟩ := id hR13
  refine hw_call (rest := []) hR13 (fun hc hk9 => x_callV (as := [(0, 128)]) (rest := []) dX4_end_13 hc (lw_V q5195 q5196 q5197 q396 q5198) (hkS (D := D) (show ga_K 4099 = (3, 0) from by decide +kernel) (by decide)) rfl rfl (show _ ∧ _ ∧ _ ∧ _ = some 1 from by decide +kernel) (by decide) (by decide) rfl (Nat.le_of_ble_eq_true rfl) hk9 aw_nox) ?_
  refine hw_locs [1, 2, 3, 0] (ls' := [(0, (2, 4099)), (1, (2, x1)), (2, (0, x2)), (3, (1, v8))]) rfl ?_
  refine h_X4_end_l16_ok hq (fun x1 x2 x3 D39 hP h => ?_) hP13 h
  · refine hw_1 (fun k => x_bipush dX4_end_39 (by decide) k) ?_
    refine hw_1 (fun k => x_istore (ls' := [(5, (0, 56)), (0, (2, 4099)), (1, (2, x1)), (2, (0, x2)), (3, (1, x3))]) dX4_end_41 (by decide) rfl k) ?_
    refine hw_locs [1, 2, 3, 4, 0] (ls' := [(0, (2, 4099)), (1, (2, x1)), (2, (0, x2)), (3, (1, x3)), (5, (0, 56))]) rfl ?_
    refine h_X4_end_l43_ok hq (fun x1 x2 D63 hP h => ?_) hP h
    · refine hw_1 (fun k => x_iconst dX4_end_63 (by decide) k) ?_
      refine hw_1 (fun k => x_istore (ls' := [(5, (0, 0)), (0, (2, 4099)), (1, (2, x1)), (2, (0, x2))]) dX4_end_64 (by decide) rfl k) ?_
      refine hw_locs [1, 2, 3, 0] (ls' := [(0, (2, 4099)), (1, (2, x1)), (2, (0, x2)), (5, (0, 0))]) rfl ?_
      refine h_X4_end_l66_ok hq (fun D106 hP h => ?_) hP h
      · obtain ⟨rfl, rfl⟩ := ga_end h
        exact hw_ret hP (x_vret dX4_end_106 rfl hq)
theorem h_X3_digest_l41_ok {G : aw_G} {M0 : aw_M} {D' : ga_D} {Q : Option aw_V → aw_M → Prop} {r : Int} (hq : Q none (hM D')) {k62 : Int → Int → Int → ga_D → ga_S} (hk62 : ∀ (x1 x2 x3 : Int) (D : ga_D), h_P D → k62 x1 x2 x3 D = some (r, D') → aw_HW G "WasteHouse$TicketChain$Chain" cX3_digest none 5 4 false M0 Q aw_no D' (hn D') (hsl D') 62 [(0, (2, 4098)), (1, (0, x1)), (2, (2, x2)), (3, (0, x3))] [] D) : ∀ {n : Nat} {x1 x2 x3 x4 : Int} {D : ga_D}, h_P D → h_X3_digest_l41 n x1 x2 x3 x4 D k62 = some (r, D') → aw_HW G "WasteHouse$TicketChain$Chain" cX3_digest none 5 4 false M0 Q aw_no D' (hn D') (hsl D') 41 [(0, (2, 4098)), (1, (0, x1)), (2, (2, x2)), (3, (0, x3)), (4, (0, x4))] [] D := by
  intro n
  induction n with
  | zero => intro x1 x2 x3 x4 D hP h; exact absurd (h : (none : ga_S) = some (r, D')) (by intro h; cases h)
  | succ n ih =>
    intro x1 x2 x3 x4 D hP h
    have ih : ∀ (x1 x2 x3 x4 : Int) (D : ga_D), h_P D → h_X3_digest_l41 n x1 x2 x3 x4 D k62 = some (r, D') → aw_HW G "WasteHouse$TicketChain$Chain" cX3_digest none 5 4 false M0 Q aw_no D' (hn D') (hsl D') 41 [(0, (2, 4098)), (1, (0, x1)), (2, (2, x2)), (3, (0, x3)), (4, (0, x4))] [] D := fun x1 x2 x3 x4 D hP h => ih hP h
    replace h : (if 32 ≤ x4 then (k62 x1 x2 x3 D) else (ga_bind (h_X4_take_2 0 D) (fun r53 D53 => ga_let (aw_w32 (x4 + 1)) (fun v56 => h_X3_digest_l41 n x1 x2 x3 v56 D53 k62))) : ga_S) = some (r, D') := h
    refine hw_1 (fun k => x_iload dX3_digest_41 rfl k) ?_
    refine hw_1 (fun k => x_bipush dX3_digest_43 (by decide) k) ?_
    by_cases c45 : 32 ≤ x4
    · rw [if_pos c45] at h
      refine hw_1 (fun k => x_icmp_ge (tgt := 62) dX3_digest_45 (by decide) (fun _ => k) (fun z => absurd c45 z)) ?_
      refine hw_locs [0, 1, 2, 3] (ls' := [(0, (2, 4098)), (1, (0, x1)), (2, (2, x2)), (3, (0, x3))]) rfl ?_
      exact hk62 _ _ _ _ hP h
    · rw [if_neg c45] at h
      refine hw_1 (fun k => x_icmp_ge (tgt := 62) dX3_digest_45 (by decide) (fun z => absurd z c45) (fun _ => k)) ?_
      refine hw_1 (fun k => x_aload_n dX3_digest_48 rfl k) ?_
      refine hw_1 (fun k => x_getf (v := 4099) dX3_digest_49 fl_X3_17 (hkS (D := D) (show ga_K 4098 = (2, 0) from by decide +kernel) (by decide)) (hP.1 4098 0 4099 (by decide +kernel)) k) ?_
      refine hw_1 (fun k => x_iconst dX3_digest_52 (by decide) k) ?_
      replace h := ga_bind_some h; obtain ⟨r53, D53, g53, h⟩ := h
      have hR53 := (h_X4_take_2_ok (G := G) hP g53)
      obtain ⟨hP53, hE53, -⟩ := id hR53
      refine hw_call (rest := []) hR53 (fun hc hk9 => x_callV (as := [(0, 0)]) (rest := []) dX3_digest_53 hc (lw_V q5207 q5196 q5197 q396 q5198) (hkS (D := D) (show ga_K 4099 = (3, 0) from by decide +kernel) (by decide)) rfl rfl (show _ ∧ _ ∧ _ ∧ _ = some 1 from by decide +kernel) (by decide) (by decide) rfl (Nat.le_of_ble_eq_true rfl) hk9 aw_nox) ?_
      replace h := ga_let_some h; obtain ⟨v56, ev56, h⟩ := h
      refine hw_1 (fun k => x_iinc (ls' := [(4, (0, v56)), (0, (2, 4098)), (1, (0, x1)), (2, (2, x2)), (3, (0, x3))]) dX3_digest_56 rfl ev56.symm (by decide) rfl k) ?_
      refine hw_1 (fun k => x_goto (tgt := 41) dX3_digest_59 (by decide) k) ?_
      refine hw_locs [1, 2, 3, 4, 0] (ls' := [(0, (2, 4098)), (1, (0, x1)), (2, (2, x2)), (3, (0, x3)), (4, (0, v56))]) rfl ?_
      exact ih _ _ _ _ _ hP53 h
theorem h_X3_digest_j62_ok {G : aw_G} {M0 : aw_M} {D' : ga_D} {Q : Option aw_V → aw_M → Prop} {r : Int} (hq : Q none (hM D')) {x1 x2 x3 : Int} {D : ga_D} (hP : h_P D) (h : h_X3_digest_j62 x1 x2 x3 D = some (r, D')) : aw_HW G "WasteHouse$TicketChain$Chain" cX3_digest none 5 4 false M0 Q aw_no D' (hn D') (hsl D') 62 [(0, (2, 4098)), (1, (0, x1)), (2, (2, x2)), (3, (0, x3))] [] D := by
  unfold h_X3_digest_j62 at h
  refine hw_1 (fun k => x_aload_n dX3_digest_62 rfl k) ?_
  refine hw_1 (fun k => x_getf (v := 4099) dX3_digest_63 fl_X3_17 (hkS (D := D) (show ga_K 4098 = (2, 0) from by decide +kernel) (by decide)) (hP.1 4098 0 4099 (by decide +kernel)) k) ?_
  refine hw_1 (fun k => x_aload_n dX3_digest_66 rfl k) ?_
  refine hw_1 (fun k => x_getf (v := 4107) dX3_digest_67 fl_X3_33 (hkS (D := D) (show ga_K 4098 = (2, 0) from by decide +kernel) (by decide)) (hP.1 4098 2 4107 (by decide +kernel)) k) ?_
  refine hw_1 (fun k => x_iload_n dX3_digest_70 rfl k) ?_
  replace h := ga_bind_some h; obtain ⟨r71, D71, g71, h⟩ := h
  have hR71 := (h_J2_get_ok (G := G) hP g71)
  obtain ⟨hP71, hE71, -⟩ := id hR71
  refine hw_call (rest := [(2, 4099)]) hR71 (fun hc hk9 => x_callV (as := [(0, x1)]) (rest := [(2, 4099)]) dX3_digest_71 hc (lw_V q5180 q3183 q3184 q401 q3185) (hkS (D := D) (show ga_K 4107 = (60, 0) from by decide +kernel) (by decide)) rfl rfl (show _ ∧ _ ∧ _ ∧ _ = some 1 from by decide +kernel) (by decide) (by decide) rfl (Nat.le_of_ble_eq_true rfl) hk9 aw_nox) ?_
  replace h := ga_ck_some h; obtain ⟨hc74_0, h⟩ := h
  refine hw_1 (fun k => x_castA (t := 2) dX3_digest_74 q5181 rfl rfl (hc74_0.imp id hk_p) k) ?_
  refine hw_1 (fun k => x_iconst dX3_digest_77 (by decide) k) ?_
  refine hw_1 (fun k => x_bipush dX3_digest_78 (by decide) k) ?_
  replace h := ga_bind_some h; obtain ⟨r80, D80, g80, h⟩ := h
  have hR80 := (h_X4_take_ok (G := G) hP71 g80)
  obtain ⟨hP80, hE80, -⟩ := id hR80
  refine hw_call (rest := []) hR80 (fun hc hk9 => x_callV (as := [(2, r71), (0, 0), (0, 41)]) (rest := []) dX3_digest_80 hc (lw_V q5191 q5192 q5193 q396 q5194) (hkS (D := D71) (show ga_K 4099 = (3, 0) from by decide +kernel) (by decide)) rfl rfl (show _ ∧ _ ∧ _ ∧ _ = some 3 from by decide +kernel) (by decide) (by decide) rfl (Nat.le_of_ble_eq_true rfl) hk9 aw_nox) ?_
  refine hw_1 (fun k => x_aload_n dX3_digest_83 rfl k) ?_
  refine hw_1 (fun k => x_getf (v := 4099) dX3_digest_84 fl_X3_17 (hkS (D := D80) (show ga_K 4098 = (2, 0) from by decide +kernel) (by decide)) (hP80.1 4098 0 4099 (by decide +kernel)) k) ?_
  refine hw_1 (fun k => x_aload_n dX3_digest_87 rfl k) ?_
  refine hw_1 (fun k => x_iload_n dX3_digest_88 rfl k) ?_
  replace h := ga_bind_some h; obtain ⟨r89, D89, g89, h⟩ := h
  have hR89 := (h_X4_end_ok (G := G) hP80 g89)
  obtain ⟨hP89, hE89, -⟩ := id hR89
  refine hw_call (rest := []) hR89 (fun hc hk9 => x_callV (as := [(2, x2), (0, x3)]) (rest := []) dX3_digest_89 hc (lw_V q5208 q5209 q5210 q396 q5211) (hkS (D := D80) (show ga_K 4099 = (3, 0) from by decide +kernel) (by decide)) rfl rfl (show _ ∧ _ ∧ _ ∧ _ = some 2 from by decide +kernel) (by decide) (by decide) rfl (Nat.le_of_ble_eq_true rfl) hk9 aw_nox) ?_
  obtain ⟨rfl, rfl⟩ := ga_end h
  exact hw_ret hP89 (x_vret dX3_digest_92 rfl hq)
theorem h_X3_digest_ok {G : aw_G} {D D' : ga_D} {r : Int} {x1 x2 x3 : Int} (hP : h_P D) (h : h_X3_digest x1 x2 x3 D = some (r, D')) : aw_HR yX3_digest cX3_digest 5 none 4 G [(2, 4098), (0, x1), (2, x2), (0, x3)] D none D' := by
  unfold h_X3_digest at h
  refine hw_body (own := "WasteHouse$TicketChain$Chain") (ini := false) (ls := [(0, (2, 4098)), (1, (0, x1)), (2, (2, x2)), (3, (0, x3))]) rfl rfl (fun h => by cases h) (Nat.le_of_ble_eq_true rfl) rfl fun Q hq => ?_
  refine hw_1 (fun k => x_aload_n dX3_digest_0 rfl k) ?_
  refine hw_1 (fun k => x_getf (v := 4099) dX3_digest_1 fl_X3_17 (hkS (D := D) (show ga_K 4098 = (2, 0) from by decide +kernel) (by decide)) (hP.1 4098 0 4099 (by decide +kernel)) k) ?_
  replace h := ga_bind_some h; obtain ⟨r4, D4, g4, h⟩ := h
  have hR4 := (h_X4_begin_ok (G := G) hP g4)
  obtain ⟨hP4, hE4, -⟩ := id hR4
  refine hw_call (rest := []) hR4 (fun hc hk9 => x_callV (as := []) (rest := []) dX3_digest_4 hc (lw_V q5186 q5187 q5188 q396 q5189) (hkS (D := D) (show ga_K 4099 = (3, 0) from by decide +kernel) (by decide)) rfl rfl (show _ ∧ _ ∧ _ ∧ _ = some 0 from by decide +kernel) (by decide) (by decide) rfl (Nat.le_of_ble_eq_true rfl) hk9 aw_nox) ?_
  refine hw_1 (fun k => x_iload_n dX3_digest_7 rfl k) ?_
  by_cases c8 : x1 ≤ 0
  · rw [if_pos c8] at h
    refine hw_1 (fun k => x_if_le (tgt := 38) dX3_digest_8 (by decide) (fun _ => k) (fun z => absurd c8 z)) ?_
    refine hw_1 (fun k => x_iconst dX3_digest_38 (by decide) k) ?_
    refine hw_1 (fun k => x_istore (ls' := [(4, (0, 0)), (0, (2, 4098)), (1, (0, x1)), (2, (2, x2)), (3, (0, x3))]) dX3_digest_39 (by decide) rfl k) ?_
    refine hw_locs [1, 2, 3, 4, 0] (ls' := [(0, (2, 4098)), (1, (0, x1)), (2, (2, x2)), (3, (0, x3)), (4, (0, 0))]) rfl ?_
    refine h_X3_digest_l41_ok hq (fun x1 x2 x3 D62 hP h => ?_) hP4 h
    · refine h_X3_digest_j62_ok hq hP h
  · rw [if_neg c8] at h
    refine hw_1 (fun k => x_if_le (tgt := 38) dX3_digest_8 (by decide) (fun z => absurd z c8) (fun _ => k)) ?_
    refine hw_1 (fun k => x_aload_n dX3_digest_11 rfl k) ?_
    refine hw_1 (fun k => x_getf (v := 4099) dX3_digest_12 fl_X3_17 (hkS (D := D4) (show ga_K 4098 = (2, 0) from by decide +kernel) (by decide)) (hP4.1 4098 0 4099 (by decide +kernel)) k) ?_
    refine hw_1 (fun k => x_aload_n dX3_digest_15 rfl k) ?_
    refine hw_1 (fun k => x_getf (v := 4107) dX3_digest_16 fl_X3_33 (hkS (D := D4) (show ga_K 4098 = (2, 0) from by decide +kernel) (by decide)) (hP4.1 4098 2 4107 (by decide +kernel)) k) ?_
    refine hw_1 (fun k => x_iload_n dX3_digest_19 rfl k) ?_
    refine hw_1 (fun k => x_iconst dX3_digest_20 (by decide) k) ?_
    refine hw_1 (fun k => x_isub dX3_digest_21 rfl k) ?_
    replace h := ga_bind_some h; obtain ⟨r22, D22, g22, h⟩ := h
    have hR22 := (h_J2_get_ok (G := G) hP4 g22)
    obtain ⟨hP22, hE22, -⟩ := id hR22
    refine hw_call (rest := [(2, 4099)]) hR22 (fun hc hk9 => x_callV (as := [(0, aw_w32 (x1 - 1))]) (rest := [(2, 4099)]) dX3_digest_22 hc (lw_V q5180 q3183 q3184 q401 q3185) (hkS (D := D4) (show ga_K 4107 = (60, 0) from by decide +kernel) (by decide)) rfl rfl (show _ ∧ _ ∧ _ ∧ _ = some 1 from by decide +kernel) (by decide) (by decide) rfl (Nat.le_of_ble_eq_true rfl) hk9 aw_nox) ?_
    replace h := ga_ck_some h; obtain ⟨hc25_0, h⟩ := h
    refine hw_1 (fun k => x_castA (t := 2) dX3_digest_25 q5181 rfl rfl (hc25_0.imp id hk_p) k) ?_
    refine hw_1 (fun k => x_bipush dX3_digest_28 (by decide) k) ?_
    refine hw_1 (fun k => x_bipush dX3_digest_30 (by decide) k) ?_
    replace h := ga_bind_some h; obtain ⟨r32, D32, g32, h⟩ := h
    have hR32 := (h_X4_take_ok (G := G) hP22 g32)
    obtain ⟨hP32, hE32, -⟩ := id hR32
    refine hw_call (rest := []) hR32 (fun hc hk9 => x_callV (as := [(2, r22), (0, 41), (0, 32)]) (rest := []) dX3_digest_32 hc (lw_V q5191 q5192 q5193 q396 q5194) (hkS (D := D22) (show ga_K 4099 = (3, 0) from by decide +kernel) (by decide)) rfl rfl (show _ ∧ _ ∧ _ ∧ _ = some 3 from by decide +kernel) (by decide) (by decide) rfl (Nat.le_of_ble_eq_true rfl) hk9 aw_nox) ?_
    refine hw_1 (fun k => x_goto (tgt := 62) dX3_digest_35 (by decide) k) ?_
    refine h_X3_digest_j62_ok hq hP32 h
theorem h_X3_close_j89_ok {G : aw_G} {M0 : aw_M} {D' : ga_D} {Q : Option aw_V → aw_M → Prop} {r : Int} (hq : Q (some (0, r)) (hM D')) {x2 x3 x5 : Int} {D : ga_D} (hP : h_P D) (h : h_X3_close_j89 x2 x3 x5 D = some (r, D')) : aw_HW G "WasteHouse$TicketChain$Chain" cX3_close (some (.int)) 6 13 false M0 Q aw_no D' (hn D') (hsl D') 89 [(2, (0, x2)), (3, (2, x3)), (5, (2, x5))] [] D := by
  unfold h_X3_close_j89 at h
  refine hw_1 (fun k => x_aload dX3_close_89 rfl k) ?_
  refine hw_1 (fun k => x_aload_n dX3_close_91 rfl k) ?_
  replace h := ga_ck_some h; obtain ⟨hc92_0, h⟩ := h
  replace h := ga_bind_some h; obtain ⟨r92, D92, g92, h⟩ := h
  have hR92 := (h_J2_add_ok (G := G) hP g92)
  obtain ⟨hP92, hE92, -⟩ := id hR92
  refine hw_call (rest := []) hR92 (fun hc hk9 => x_callV (as := [(2, x3)]) (rest := []) dX3_close_92 hc (lw_V q5158 q1941 q1942 q401 q1943) hc92_0 rfl rfl (show _ ∧ _ ∧ _ ∧ _ = some 1 from by decide +kernel) (by decide) (by decide) rfl (Nat.le_of_ble_eq_true rfl) hk9 aw_nox) ?_
  refine hw_1 (fun k => x_pop dX3_close_95 rfl k) ?_
  refine hw_1 (fun k => x_iload_n dX3_close_96 rfl k) ?_
  obtain ⟨rfl, rfl⟩ := ga_end h
  exact hw_ret hP92 (x_iret dX3_close_97 rfl rfl trivial hq)
theorem h_X3_close_ok {G : aw_G} {D D' : ga_D} {r : Int} {x1 : Int} (hP : h_P D) (h : h_X3_close x1 D = some (r, D')) : aw_HR yX3_close cX3_close 6 (some (.int)) 13 G [(2, 4098), (2, x1)] D (some (0, r)) D' := by
  unfold h_X3_close at h
  refine hw_body (own := "WasteHouse$TicketChain$Chain") (ini := false) (ls := [(0, (2, 4098)), (1, (2, x1))]) rfl rfl (fun h => by cases h) (Nat.le_of_ble_eq_true rfl) rfl fun Q hq => ?_
  refine hw_1 (fun k => x_aload_n dX3_close_0 rfl k) ?_
  refine hw_1 (fun k => x_getf (v := 4107) dX3_close_1 fl_X3_33 (hkS (D := D) (show ga_K 4098 = (2, 0) from by decide +kernel) (by decide)) (hP.1 4098 2 4107 (by decide +kernel)) k) ?_
  replace h := ga_bind_some h; obtain ⟨r4, D4, g4, h⟩ := h
  have hR4 := (h_J2_size_ok (G := G) hP g4)
  obtain ⟨hP4, hE4, -⟩ := id hR4
  refine hw_call (rest := []) hR4 (fun hc hk9 => x_callV (as := []) (rest := []) dX3_close_4 hc (lw_V q5118 q3530 q3531 q401 q3532) (hkS (D := D) (show ga_K 4107 = (60, 0) from by decide +kernel) (by decide)) rfl rfl (show _ ∧ _ ∧ _ ∧ _ = some 0 from by decide +kernel) (by decide) (by decide) rfl (Nat.le_of_ble_eq_true rfl) hk9 aw_nox) ?_
  refine hw_1 (fun k => x_iconst dX3_close_7 (by decide) k) ?_
  refine hw_1 (fun k => x_isub dX3_close_8 rfl k) ?_
  replace h := ga_let_some h; obtain ⟨v9, ev9, h⟩ := h
  refine hw_nm ev9 ?_
  refine hw_1 (fun k => x_istore_n (ls' := [(2, (0, v9)), (0, (2, 4098)), (1, (2, x1))]) dX3_close_9 (by decide) rfl k) ?_
  refine hw_1 (fun k => x_aload_n dX3_close_10 rfl k) ?_
  refine hw_1 (fun k => x_getf (v := 4107) dX3_close_11 fl_X3_33 (hkS (D := D4) (show ga_K 4098 = (2, 0) from by decide +kernel) (by decide)) (hP4.1 4098 2 4107 (by decide +kernel)) k) ?_
  refine hw_1 (fun k => x_iload_n dX3_close_14 rfl k) ?_
  replace h := ga_bind_some h; obtain ⟨r15, D15, g15, h⟩ := h
  have hR15 := (h_J2_get_ok (G := G) hP4 g15)
  obtain ⟨hP15, hE15, -⟩ := id hR15
  refine hw_call (rest := []) hR15 (fun hc hk9 => x_callV (as := [(0, v9)]) (rest := []) dX3_close_15 hc (lw_V q5180 q3183 q3184 q401 q3185) (hkS (D := D4) (show ga_K 4107 = (60, 0) from by decide +kernel) (by decide)) rfl rfl (show _ ∧ _ ∧ _ ∧ _ = some 1 from by decide +kernel) (by decide) (by decide) rfl (Nat.le_of_ble_eq_true rfl) hk9 aw_nox) ?_
  replace h := ga_ck_some h; obtain ⟨hc18_0, h⟩ := h
  refine hw_1 (fun k => x_castA (t := 2) dX3_close_18 q5181 rfl rfl (hc18_0.imp id hk_p) k) ?_
  refine hw_1 (fun k => x_astore_n (ls' := [(3, (2, r15)), (2, (0, v9)), (0, (2, 4098)), (1, (2, x1))]) dX3_close_21 (by decide) rfl k) ?_
  refine hw_1 (fun k => x_aload_n dX3_close_22 rfl k) ?_
  refine hw_1 (fun k => x_iload_n dX3_close_23 rfl k) ?_
  refine hw_1 (fun k => x_aload_n dX3_close_24 rfl k) ?_
  refine hw_1 (fun k => x_bipush dX3_close_25 (by decide) k) ?_
  replace h := ga_bind_some h; obtain ⟨r27, D27, g27, h⟩ := h
  have hR27 := (h_X3_digest_ok (G := G) hP15 g27)
  obtain ⟨hP27, hE27, -⟩ := id hR27
  refine hw_call (rest := []) hR27 (fun hc hk9 => x_callV (as := [(0, v9), (2, r15), (0, 41)]) (rest := []) dX3_close_27 hc (lw_V q5182 q5184 qs79 q395 q5185) (hkS (D := D15) (show ga_K 4098 = (2, 0) from by decide +kernel) (by decide)) rfl rfl (show _ ∧ _ ∧ _ ∧ _ = some 3 from by decide +kernel) (by decide) (by decide) rfl (Nat.le_of_ble_eq_true rfl) hk9 aw_nox) ?_
  refine hw_1 (fun k => x_aload_n dX3_close_30 rfl k) ?_
  refine hw_1 (fun k => x_bipush dX3_close_31 (by decide) k) ?_
  replace h := ga_ck_some h; obtain ⟨hc33_1, h⟩ := h
  replace h := ga_bind_some h; obtain ⟨r33, D33, g33, h⟩ := h
  have hR33 := (h_X63_get_ok (G := G) hP27 g33)
  obtain ⟨hP33, hE33, -⟩ := id hR33
  refine hw_call (rest := []) hR33 (fun hc hk9 => x_callV (as := [(0, 6)]) (rest := []) dX3_close_33 hc (lw_V q5167 q5168 q5169 q504 q5170) hc33_1 rfl rfl (show _ ∧ _ ∧ _ ∧ _ = some 1 from by decide +kernel) (by decide) (by decide) rfl (Nat.le_of_ble_eq_true rfl) hk9 aw_nox) ?_
  refine hw_1 (fun k => x_ldc2 (z := 86400) dX3_close_36 q5214 (by decide) k) ?_
  refine hw_1 (fun k => x_ldiv dX3_close_39 (by decide) rfl k) ?_
  refine hw_1 (fun k => x_l2i dX3_close_40 rfl k) ?_
  replace h := ga_let_some h; obtain ⟨v41, ev41, h⟩ := h
  refine hw_nm ev41 ?_
  refine hw_1 (fun k => x_istore (ls' := [(4, (0, v41)), (3, (2, r15)), (2, (0, v9)), (0, (2, 4098)), (1, (2, x1))]) dX3_close_41 (by decide) rfl k) ?_
  refine hw_1 (fun k => x_aload_n dX3_close_43 rfl k) ?_
  refine hw_1 (fun k => x_getf (v := 4108) dX3_close_44 fl_X3_40 (hkS (D := D33) (show ga_K 4098 = (2, 0) from by decide +kernel) (by decide)) (hP33.1 4098 3 4108 (by decide +kernel)) k) ?_
  refine hw_1 (fun k => x_iload dX3_close_47 rfl k) ?_
  replace h := ga_bind_some h; obtain ⟨r49, D49, g49, h⟩ := h
  have hR49 := (h_J25_valueOf_ok (G := G) hP33 g49)
  obtain ⟨hP49, hE49, -⟩ := id hR49
  refine hw_call (rest := [(2, 4108)]) hR49 (fun hc hk9 => x_callS (as := [(0, v41)]) (rest := [(2, 4108)]) dX3_close_49 hc (lw_S q5215 q3560 q476 q3561) (show _ ∧ _ ∧ _ = some 1 from by decide +kernel) (by decide) (by decide) rfl (Nat.le_of_ble_eq_true rfl) hk9 aw_nox) ?_
  replace h := ga_bind_some h; obtain ⟨r52, D52, g52, h⟩ := h
  have hR52 := (h_J4_get_ok (G := G) hP49 g52)
  obtain ⟨hP52, hE52, -⟩ := id hR52
  refine hw_call (rest := []) hR52 (fun hc hk9 => x_callV (as := [(2, r49)]) (rest := []) dX3_close_52 hc (lw_V q5216 q4315 q4316 q403 q4317) (hkS (D := D49) (show ga_K 4108 = (61, 0) from by decide +kernel) (by decide)) rfl rfl (show _ ∧ _ ∧ _ ∧ _ = some 1 from by decide +kernel) (by decide) (by decide) rfl (Nat.le_of_ble_eq_true rfl) hk9 aw_nox) ?_
  replace h := ga_ck_some h; obtain ⟨hc55_2, h⟩ := h
  refine hw_1 (fun k => x_castL (L := [60]) dX3_close_55 q592 sbl_java_util_ArrayList (aw_or1 hc55_2) k) ?_
  refine hw_1 (fun k => x_astore (ls' := [(5, (2, r52)), (4, (0, v41)), (3, (2, r15)), (2, (0, v9)), (0, (2, 4098)), (1, (2, x1))]) dX3_close_58 (by decide) rfl k) ?_
  refine hw_1 (fun k => x_aload dX3_close_60 rfl k) ?_
  by_cases c62 : r52 ≠ 0
  · rw [if_pos c62] at h
    refine hw_1 (fun k => x_ifnonnull (tgt := 89) dX3_close_62 (by decide) (fun _ => k) (fun z => absurd c62 z)) ?_
    refine hw_locs [3, 2, 0] (ls' := [(2, (0, v9)), (3, (2, r15)), (5, (2, r52))]) rfl ?_
    refine h_X3_close_j89_ok hq hP52 h
  · rw [if_neg c62] at h
    refine hw_1 (fun k => x_ifnonnull (tgt := 89) dX3_close_62 (by decide) (fun z => absurd z c62) (fun _ => k)) ?_
    replace h := ga_let_some h; obtain ⟨z65, ez65, h⟩ := h
    replace h := ga_let_some h; obtain ⟨D65, eD65, h⟩ := h
    refine hy_new hP52 ez65 eD65 rfl rfl dX3_close_65 rfl rfl q592 q593 q401 (fun hP65 hE65 hz65 hg65 => ?_)
    refine hw_1 (fun k => x_dup dX3_close_68 rfl k) ?_
    replace h := ga_bind_some h; obtain ⟨r69, D69, g69, h⟩ := h
    have hR69 := (h_J2_init_ok (G := G) (hk_pos1 hz65 (by decide)) hP65 g69)
    obtain ⟨hP69, hE69, -⟩ := id hR69
    refine hw_call (rest := [(2, z65)]) hR69 (fun hc hk9 => x_callI (as := []) (rest := [(2, z65)]) dX3_close_69 hc (lw_meth q596) q401 q594 q595 hz65 rfl rfl (show _ ∧ _ ∧ _ = some 0 from by decide +kernel) (by decide) (by decide) rfl (Nat.le_of_ble_eq_true rfl) hk9 aw_nox) ?_
    refine hw_1 (fun k => x_astore (ls' := [(5, (2, z65)), (4, (0, v41)), (3, (2, r15)), (2, (0, v9)), (0, (2, 4098)), (1, (2, x1))]) dX3_close_72 (by decide) rfl k) ?_
    refine hw_1 (fun k => x_aload_n dX3_close_74 rfl k) ?_
    refine hw_1 (fun k => x_getf (v := 4108) dX3_close_75 fl_X3_40 (hkS (D := D69) (show ga_K 4098 = (2, 0) from by decide +kernel) (by decide)) (hP69.1 4098 3 4108 (by decide +kernel)) k) ?_
    refine hw_1 (fun k => x_iload dX3_close_78 rfl k) ?_
    replace h := ga_bind_some h; obtain ⟨r80, D80, g80, h⟩ := h
    have hR80 := (h_J25_valueOf_ok (G := G) hP69 g80)
    obtain ⟨hP80, hE80, -⟩ := id hR80
    refine hw_call (rest := [(2, 4108)]) hR80 (fun hc hk9 => x_callS (as := [(0, v41)]) (rest := [(2, 4108)]) dX3_close_80 hc (lw_S q5215 q3560 q476 q3561) (show _ ∧ _ ∧ _ = some 1 from by decide +kernel) (by decide) (by decide) rfl (Nat.le_of_ble_eq_true rfl) hk9 aw_nox) ?_
    refine hw_1 (fun k => x_aload dX3_close_83 rfl k) ?_
    replace h := ga_bind_some h; obtain ⟨r85, D85, g85, h⟩ := h
    have hR85 := (h_J4_put_ok (G := G) hP80 g85)
    obtain ⟨hP85, hE85, -⟩ := id hR85
    refine hw_call (rest := []) hR85 (fun hc hk9 => x_callV (as := [(2, r80), (2, z65)]) (rest := []) dX3_close_85 hc (lw_V q5217 q4237 q4238 q403 q4239) (hkS (D := D80) (show ga_K 4108 = (61, 0) from by decide +kernel) (by decide)) rfl rfl (show _ ∧ _ ∧ _ ∧ _ = some 2 from by decide +kernel) (by decide) (by decide) rfl (Nat.le_of_ble_eq_true rfl) hk9 aw_nox) ?_
    refine hw_1 (fun k => x_pop dX3_close_88 rfl k) ?_
    refine hw_locs [3, 2, 0] (ls' := [(2, (0, v9)), (3, (2, r15)), (5, (2, z65))]) rfl ?_
    refine h_X3_close_j89_ok hq hP85 h
theorem h_X3_ticket_ok {G : aw_G} {D D' : ga_D} {r : Int} {x1 : Int} (hP : h_P D) (h : h_X3_ticket x1 D = some (r, D')) : aw_HR yX3_ticket cX3_ticket 3 (some (.int)) 14 G [(2, 4098), (2, x1)] D (some (0, r)) D' := by
  unfold h_X3_ticket at h
  refine hw_body (own := "WasteHouse$TicketChain$Chain") (ini := false) (ls := [(0, (2, 4098)), (1, (2, x1))]) rfl rfl (fun h => by cases h) (Nat.le_of_ble_eq_true rfl) rfl fun Q hq => ?_
  refine hw_1 (fun k => x_aload_n dX3_ticket_0 rfl k) ?_
  refine hw_1 (fun k => x_iconst dX3_ticket_1 (by decide) k) ?_
  refine hw_1 (fun k => x_aload_n dX3_ticket_2 rfl k) ?_
  replace h := ga_ck_some h; obtain ⟨hc3_0, h⟩ := h
  refine hw_1 (fun k => x_getf (v := D x1 0) dX3_ticket_3 fl_X3_68 hc3_0 rfl k) ?_
  replace h := ga_bind_some h; obtain ⟨r6, D6, g6, h⟩ := h
  have hR6 := (h_X3_begin_ok (G := G) hP g6)
  obtain ⟨hP6, hE6, -⟩ := id hR6
  refine hw_call (rest := []) hR6 (fun hc hk9 => x_callV (as := [(0, 1), (0, D x1 0)]) (rest := []) dX3_ticket_6 hc (lw_V q5154 q5156 qs77 q395 q5157) (hkS (D := D) (show ga_K 4098 = (2, 0) from by decide +kernel) (by decide)) rfl rfl (show _ ∧ _ ∧ _ ∧ _ = some 2 from by decide +kernel) (by decide) (by decide) rfl (Nat.le_of_ble_eq_true rfl) hk9 aw_nox) ?_
  refine hw_1 (fun k => x_astore_n (ls' := [(2, (2, r6)), (0, (2, 4098)), (1, (2, x1))]) dX3_ticket_9 (by decide) rfl k) ?_
  refine hw_1 (fun k => x_aload_n dX3_ticket_10 rfl k) ?_
  refine hw_1 (fun k => x_aload_n dX3_ticket_11 rfl k) ?_
  refine hw_1 (fun k => x_iconst dX3_ticket_12 (by decide) k) ?_
  replace h := ga_bind_some h; obtain ⟨r13, D13, g13, h⟩ := h
  have hR13 := (h_X63_get_ok (G := G) hP6 g13)
  obtain ⟨hP13, hE13, -⟩ := id hR13
  refine hw_call (rest := [(2, r6)]) hR13 (fun hc hk9 => x_callV (as := [(0, 1)]) (rest := [(2, r6)]) dX3_ticket_13 hc (lw_V q5167 q5168 q5169 q504 q5170) (h_kx hE6 hc3_0 (by decide)) rfl rfl (show _ ∧ _ ∧ _ ∧ _ = some 1 from by decide +kernel) (by decide) (by decide) rfl (Nat.le_of_ble_eq_true rfl) hk9 aw_nox) ?_
  refine hw_1 (fun k => x_l2i dX3_ticket_16 rfl k) ?_
  replace h := ga_ck_some h; obtain ⟨hc17_1, h⟩ := h
  replace h := ga_ck_some h; obtain ⟨hc17_2, h⟩ := h
  replace h := ga_bind_some h; obtain ⟨r17, D17, g17, h⟩ := h
  have hR17 := (show aw_HR _ _ _ _ _ G ((2, r6) :: _) _ _ _ from (by rw [hc17_2]; exact (h_X6_four_ok (G := G) hP13 g17)))
  obtain ⟨hP17, hE17, -⟩ := id hR17
  refine hw_call (rest := []) hR17 (fun hc hk9 => x_callV (as := [(0, aw_w32 r13)]) (rest := []) dX3_ticket_17 hc (lw_V q5171 q5164 q5165 q398 q5166) hc17_1 rfl rfl (show _ ∧ _ ∧ _ ∧ _ = some 1 from by decide +kernel) (by decide) (by decide) rfl (Nat.le_of_ble_eq_true rfl) hk9 aw_nox) ?_
  refine hw_1 (fun k => x_aload_n dX3_ticket_20 rfl k) ?_
  refine hw_1 (fun k => x_aload_n dX3_ticket_21 rfl k) ?_
  refine hw_1 (fun k => x_iconst dX3_ticket_22 (by decide) k) ?_
  replace h := ga_bind_some h; obtain ⟨r23, D23, g23, h⟩ := h
  have hR23 := (h_X63_get_ok (G := G) hP17 g23)
  obtain ⟨hP23, hE23, -⟩ := id hR23
  refine hw_call (rest := [(2, r6)]) hR23 (fun hc hk9 => x_callV (as := [(0, 2)]) (rest := [(2, r6)]) dX3_ticket_23 hc (lw_V q5167 q5168 q5169 q504 q5170) (h_kx hE17 (h_kx hE13 (h_kx hE6 hc3_0 (by decide)) (by decide)) (by decide)) rfl rfl (show _ ∧ _ ∧ _ ∧ _ = some 1 from by decide +kernel) (by decide) (by decide) rfl (Nat.le_of_ble_eq_true rfl) hk9 aw_nox) ?_
  refine hw_1 (fun k => x_l2i dX3_ticket_26 rfl k) ?_
  replace h := ga_ck_some h; obtain ⟨hc27_3, h⟩ := h
  replace h := ga_bind_some h; obtain ⟨r27, D27, g27, h⟩ := h
  have hR27 := (show aw_HR _ _ _ _ _ G ((2, r6) :: _) _ _ _ from (by rw [hc27_3]; exact (h_X6_four_ok (G := G) hP23 g27)))
  obtain ⟨hP27, hE27, -⟩ := id hR27
  refine hw_call (rest := []) hR27 (fun hc hk9 => x_callV (as := [(0, aw_w32 r23)]) (rest := []) dX3_ticket_27 hc (lw_V q5171 q5164 q5165 q398 q5166) (h_kx hE23 (h_kx hE17 hc17_1 (by decide)) (by decide)) rfl rfl (show _ ∧ _ ∧ _ ∧ _ = some 1 from by decide +kernel) (by decide) (by decide) rfl (Nat.le_of_ble_eq_true rfl) hk9 aw_nox) ?_
  refine hw_1 (fun k => x_aload_n dX3_ticket_30 rfl k) ?_
  refine hw_1 (fun k => x_aload_n dX3_ticket_31 rfl k) ?_
  refine hw_1 (fun k => x_iconst dX3_ticket_32 (by decide) k) ?_
  replace h := ga_bind_some h; obtain ⟨r33, D33, g33, h⟩ := h
  have hR33 := (h_X63_get_ok (G := G) hP27 g33)
  obtain ⟨hP33, hE33, -⟩ := id hR33
  refine hw_call (rest := [(2, r6)]) hR33 (fun hc hk9 => x_callV (as := [(0, 3)]) (rest := [(2, r6)]) dX3_ticket_33 hc (lw_V q5167 q5168 q5169 q504 q5170) (h_kx hE27 (h_kx hE23 (h_kx hE17 (h_kx hE13 (h_kx hE6 hc3_0 (by decide)) (by decide)) (by decide)) (by decide)) (by decide)) rfl rfl (show _ ∧ _ ∧ _ ∧ _ = some 1 from by decide +kernel) (by decide) (by decide) rfl (Nat.le_of_ble_eq_true rfl) hk9 aw_nox) ?_
  replace h := ga_ck_some h; obtain ⟨hc36_4, h⟩ := h
  replace h := ga_bind_some h; obtain ⟨r36, D36, g36, h⟩ := h
  have hR36 := (show aw_HR _ _ _ _ _ G ((2, r6) :: _) _ _ _ from (by rw [hc36_4]; exact (h_X6_eight_ok (G := G) hP33 g36)))
  obtain ⟨hP36, hE36, -⟩ := id hR36
  refine hw_call (rest := []) hR36 (fun hc hk9 => x_callV (as := [(1, r33)]) (rest := []) dX3_ticket_36 hc (lw_V q5172 q5173 q5174 q398 q5175) (h_kx hE33 (h_kx hE27 (h_kx hE23 (h_kx hE17 hc17_1 (by decide)) (by decide)) (by decide)) (by decide)) rfl rfl (show _ ∧ _ ∧ _ ∧ _ = some 1 from by decide +kernel) (by decide) (by decide) rfl (Nat.le_of_ble_eq_true rfl) hk9 aw_nox) ?_
  refine hw_1 (fun k => x_aload_n dX3_ticket_39 rfl k) ?_
  refine hw_1 (fun k => x_aload_n dX3_ticket_40 rfl k) ?_
  refine hw_1 (fun k => x_iconst dX3_ticket_41 (by decide) k) ?_
  replace h := ga_bind_some h; obtain ⟨r42, D42, g42, h⟩ := h
  have hR42 := (h_X63_get_ok (G := G) hP36 g42)
  obtain ⟨hP42, hE42, -⟩ := id hR42
  refine hw_call (rest := [(2, r6)]) hR42 (fun hc hk9 => x_callV (as := [(0, 4)]) (rest := [(2, r6)]) dX3_ticket_42 hc (lw_V q5167 q5168 q5169 q504 q5170) (h_kx hE36 (h_kx hE33 (h_kx hE27 (h_kx hE23 (h_kx hE17 (h_kx hE13 (h_kx hE6 hc3_0 (by decide)) (by decide)) (by decide)) (by decide)) (by decide)) (by decide)) (by decide)) rfl rfl (show _ ∧ _ ∧ _ ∧ _ = some 1 from by decide +kernel) (by decide) (by decide) rfl (Nat.le_of_ble_eq_true rfl) hk9 aw_nox) ?_
  replace h := ga_ck_some h; obtain ⟨hc45_5, h⟩ := h
  replace h := ga_bind_some h; obtain ⟨r45, D45, g45, h⟩ := h
  have hR45 := (show aw_HR _ _ _ _ _ G ((2, r6) :: _) _ _ _ from (by rw [hc45_5]; exact (h_X6_eight_ok (G := G) hP42 g45)))
  obtain ⟨hP45, hE45, -⟩ := id hR45
  refine hw_call (rest := []) hR45 (fun hc hk9 => x_callV (as := [(1, r42)]) (rest := []) dX3_ticket_45 hc (lw_V q5172 q5173 q5174 q398 q5175) (h_kx hE42 (h_kx hE36 (h_kx hE33 (h_kx hE27 (h_kx hE23 (h_kx hE17 hc17_1 (by decide)) (by decide)) (by decide)) (by decide)) (by decide)) (by decide)) rfl rfl (show _ ∧ _ ∧ _ ∧ _ = some 1 from by decide +kernel) (by decide) (by decide) rfl (Nat.le_of_ble_eq_true rfl) hk9 aw_nox) ?_
  refine hw_1 (fun k => x_aload_n dX3_ticket_48 rfl k) ?_
  refine hw_1 (fun k => x_aload_n dX3_ticket_49 rfl k) ?_
  refine hw_1 (fun k => x_bipush dX3_ticket_50 (by decide) k) ?_
  replace h := ga_bind_some h; obtain ⟨r52, D52, g52, h⟩ := h
  have hR52 := (h_X63_get_ok (G := G) hP45 g52)
  obtain ⟨hP52, hE52, -⟩ := id hR52
  refine hw_call (rest := [(2, r6)]) hR52 (fun hc hk9 => x_callV (as := [(0, 6)]) (rest := [(2, r6)]) dX3_ticket_52 hc (lw_V q5167 q5168 q5169 q504 q5170) (h_kx hE45 (h_kx hE42 (h_kx hE36 (h_kx hE33 (h_kx hE27 (h_kx hE23 (h_kx hE17 (h_kx hE13 (h_kx hE6 hc3_0 (by decide)) (by decide)) (by decide)) (by decide)) (by decide)) (by decide)) (by decide)) (by decide)) (by decide)) rfl rfl (show _ ∧ _ ∧ _ ∧ _ = some 1 from by decide +kernel) (by decide) (by decide) rfl (Nat.le_of_ble_eq_true rfl) hk9 aw_nox) ?_
  replace h := ga_ck_some h; obtain ⟨hc55_6, h⟩ := h
  replace h := ga_bind_some h; obtain ⟨r55, D55, g55, h⟩ := h
  have hR55 := (show aw_HR _ _ _ _ _ G ((2, r6) :: _) _ _ _ from (by rw [hc55_6]; exact (h_X6_eight_ok (G := G) hP52 g55)))
  obtain ⟨hP55, hE55, -⟩ := id hR55
  refine hw_call (rest := []) hR55 (fun hc hk9 => x_callV (as := [(1, r52)]) (rest := []) dX3_ticket_55 hc (lw_V q5172 q5173 q5174 q398 q5175) (h_kx hE52 (h_kx hE45 (h_kx hE42 (h_kx hE36 (h_kx hE33 (h_kx hE27 (h_kx hE23 (h_kx hE17 hc17_1 (by decide)) (by decide)) (by decide)) (by decide)) (by decide)) (by decide)) (by decide)) (by decide)) rfl rfl (show _ ∧ _ ∧ _ ∧ _ = some 1 from by decide +kernel) (by decide) (by decide) rfl (Nat.le_of_ble_eq_true rfl) hk9 aw_nox) ?_
  refine hw_1 (fun k => x_aload_n dX3_ticket_58 rfl k) ?_
  refine hw_1 (fun k => x_aload_n dX3_ticket_59 rfl k) ?_
  refine hw_1 (fun k => x_bipush dX3_ticket_60 (by decide) k) ?_
  replace h := ga_bind_some h; obtain ⟨r62, D62, g62, h⟩ := h
  have hR62 := (h_X63_get_ok (G := G) hP55 g62)
  obtain ⟨hP62, hE62, -⟩ := id hR62
  refine hw_call (rest := [(2, r6)]) hR62 (fun hc hk9 => x_callV (as := [(0, 7)]) (rest := [(2, r6)]) dX3_ticket_62 hc (lw_V q5167 q5168 q5169 q504 q5170) (h_kx hE55 (h_kx hE52 (h_kx hE45 (h_kx hE42 (h_kx hE36 (h_kx hE33 (h_kx hE27 (h_kx hE23 (h_kx hE17 (h_kx hE13 (h_kx hE6 hc3_0 (by decide)) (by decide)) (by decide)) (by decide)) (by decide)) (by decide)) (by decide)) (by decide)) (by decide)) (by decide)) (by decide)) rfl rfl (show _ ∧ _ ∧ _ ∧ _ = some 1 from by decide +kernel) (by decide) (by decide) rfl (Nat.le_of_ble_eq_true rfl) hk9 aw_nox) ?_
  refine hw_1 (fun k => x_l2i dX3_ticket_65 rfl k) ?_
  replace h := ga_ck_some h; obtain ⟨hc66_7, h⟩ := h
  replace h := ga_bind_some h; obtain ⟨r66, D66, g66, h⟩ := h
  have hR66 := (show aw_HR _ _ _ _ _ G ((2, r6) :: _) _ _ _ from (by rw [hc66_7]; exact (h_X6_four_ok (G := G) hP62 g66)))
  obtain ⟨hP66, hE66, -⟩ := id hR66
  refine hw_call (rest := []) hR66 (fun hc hk9 => x_callV (as := [(0, aw_w32 r62)]) (rest := []) dX3_ticket_66 hc (lw_V q5171 q5164 q5165 q398 q5166) (h_kx hE62 (h_kx hE55 (h_kx hE52 (h_kx hE45 (h_kx hE42 (h_kx hE36 (h_kx hE33 (h_kx hE27 (h_kx hE23 (h_kx hE17 hc17_1 (by decide)) (by decide)) (by decide)) (by decide)) (by decide)) (by decide)) (by decide)) (by decide)) (by decide)) (by decide)) rfl rfl (show _ ∧ _ ∧ _ ∧ _ = some 1 from by decide +kernel) (by decide) (by decide) rfl (Nat.le_of_ble_eq_true rfl) hk9 aw_nox) ?_
  refine hw_1 (fun k => x_aload_n dX3_ticket_69 rfl k) ?_
  refine hw_1 (fun k => x_aload_n dX3_ticket_70 rfl k) ?_
  replace h := ga_bind_some h; obtain ⟨r71, D71, g71, h⟩ := h
  have hR71 := (h_X3_close_ok (G := G) hP66 g71)
  obtain ⟨hP71, hE71, -⟩ := id hR71
  refine hw_call (rest := []) hR71 (fun hc hk9 => x_callV (as := [(2, x1)]) (rest := []) dX3_ticket_71 hc (lw_V q5176 q5178 qs78 q395 q5179) (hkS (D := D66) (show ga_K 4098 = (2, 0) from by decide +kernel) (by decide)) rfl rfl (show _ ∧ _ ∧ _ ∧ _ = some 1 from by decide +kernel) (by decide) (by decide) rfl (Nat.le_of_ble_eq_true rfl) hk9 aw_nox) ?_
  obtain ⟨rfl, rfl⟩ := ga_end h
  exact hw_ret hP71 (x_iret dX3_ticket_74 rfl rfl trivial hq)
theorem h_X2_ticket_j125_ok {G : aw_G} {M0 : aw_M} {D' : ga_D} {Q : Option aw_V → aw_M → Prop} {r : Int} (hq : Q (some (0, r)) (hM D')) {x1 x2 x3 x7 x9 s0 : Int} {D : ga_D} (hP : h_P D) (h : h_X2_ticket_j125 x1 x2 x3 x7 x9 s0 D = some (r, D')) : aw_HW G "WasteHouse$TicketChain" cX2_ticket (some (.int)) 14 15 false M0 Q aw_no D' (hn D') (hsl D') 125 [(0, (2, 4097)), (1, (0, x1)), (2, (0, x2)), (3, (1, x3)), (7, (1, x7)), (9, (0, x9))] [(1, s0)] D := by
  unfold h_X2_ticket_j125 at h
  refine hw_1 (fun k => x_lstore (ls' := [(11, (1, s0)), (0, (2, 4097)), (1, (0, x1)), (2, (0, x2)), (3, (1, x3)), (7, (1, x7)), (9, (0, x9))]) dX2_ticket_125 (by decide) rfl k) ?_
  refine hw_1 (fun k => x_lload dX2_ticket_127 rfl k) ?_
  refine hw_1 (fun k => x_ldc2 (z := (-1)) dX2_ticket_129 q5096 (by decide) k) ?_
  refine hw_1 (fun k => x_lcmp dX2_ticket_132 rfl k) ?_
  by_cases c133 : s0 ≠ (-1)
  · rw [if_pos c133] at h
    refine hw_1 (fun k => x_if_ne (tgt := 138) dX2_ticket_133 (by decide) (fun _ => k) (fun z => absurd (cmi_ne.mpr c133) z)) ?_
    refine hw_1 (fun k => x_lload_n dX2_ticket_138 rfl k) ?_
    refine hw_1 (fun k => x_lload dX2_ticket_139 rfl k) ?_
    refine hw_1 (fun k => x_lcmp dX2_ticket_141 rfl k) ?_
    by_cases c142 : s0 ≤ x3
    · rw [if_pos c142] at h
      refine hw_1 (fun k => x_if_ge (tgt := 170) dX2_ticket_142 (by decide) (fun _ => k) (fun z => absurd (cmi_ge.mpr c142) z)) ?_
      replace h := ga_let_some h; obtain ⟨z170, ez170, h⟩ := h
      replace h := ga_let_some h; obtain ⟨D170, eD170, h⟩ := h
      refine hy_new hP ez170 eD170 rfl rfl dX2_ticket_170 rfl rfl q5122 q5123 q504 (fun hP170 hE170 hz170 hg170 => ?_)
      refine hw_1 (fun k => x_dup dX2_ticket_173 rfl k) ?_
      refine hw_1 (fun k => x_aload_n dX2_ticket_174 rfl k) ?_
      refine hw_1 (fun k => x_dup dX2_ticket_175 rfl k) ?_
      refine hw_1 (fun k => x_getf (v := D170 4097 4) dX2_ticket_176 fl_X2_93 (hkS (D := D170) (show ga_K 4097 = (1, 0) from by decide +kernel) (by decide)) rfl k) ?_
      refine hw_1 (fun k => x_dup_x1 dX2_ticket_179 rfl rfl k) ?_
      refine hw_1 (fun k => x_iconst dX2_ticket_180 (by decide) k) ?_
      refine hw_1 (fun k => x_iadd dX2_ticket_181 rfl k) ?_
      replace h := ga_let_some h; obtain ⟨D182, eD182, h⟩ := h
      refine hw_set eD182 (by decide) (by decide) (fun k => x_putf dX2_ticket_182 fl_X2_93 rfl (hkS (D := D170) (show ga_K 4097 = (1, 0) from by decide +kernel) (by decide)) (by decide) trivial k) ?_
      have hP182 : h_P D182 := hP170.set eD182 (by decide) (by decide) (hPn (hkS (D := D170) (show ga_K 4097 = (1, 0) from by decide +kernel) (by decide)) rfl)
      have hE182 : h_E D170 D182 := h_E_set eD182 (by decide)
      replace h := ga_bind_some h; obtain ⟨r185, D185, g185, h⟩ := h
      have hR185 := (h_X63_init_ok (G := G) (hk_pos1 (h_kx hE182 hz170 (by decide)) (by decide)) hP182 g185)
      obtain ⟨hP185, hE185, -⟩ := id hR185
      refine hw_call (rest := [(2, z170)]) hR185 (fun hc hk9 => x_callI (as := [(0, D170 4097 4)]) (rest := [(2, z170)]) dX2_ticket_185 hc (lw_meth q5126) q504 q5124 q5125 (h_kx hE182 hz170 (by decide)) rfl rfl (show _ ∧ _ ∧ _ = some 1 from by decide +kernel) (by decide) (by decide) rfl (Nat.le_of_ble_eq_true rfl) hk9 aw_nox) ?_
      refine hw_1 (fun k => x_astore (ls' := [(13, (2, z170)), (11, (1, s0)), (0, (2, 4097)), (1, (0, x1)), (2, (0, x2)), (3, (1, x3)), (7, (1, x7)), (9, (0, x9))]) dX2_ticket_188 (by decide) rfl k) ?_
      refine hw_1 (fun k => x_aload dX2_ticket_190 rfl k) ?_
      refine hw_1 (fun k => x_iconst dX2_ticket_192 (by decide) k) ?_
      refine hw_1 (fun k => x_iload_n dX2_ticket_193 rfl k) ?_
      refine hw_1 (fun k => x_i2l dX2_ticket_194 rfl k) ?_
      replace h := ga_bind_some h; obtain ⟨r195, D195, g195, h⟩ := h
      have hR195 := (h_X63_set_ok (G := G) hP185 g195)
      obtain ⟨hP195, hE195, -⟩ := id hR195
      refine hw_call (rest := []) hR195 (fun hc hk9 => x_callV (as := [(0, 1), (1, x1)]) (rest := []) dX2_ticket_195 hc (lw_V q5146 q5147 q5148 q504 q5149) (h_kx hE185 (h_kx hE182 hz170 (by decide)) (by decide)) rfl rfl (show _ ∧ _ ∧ _ ∧ _ = some 2 from by decide +kernel) (by decide) (by decide) rfl (Nat.le_of_ble_eq_true rfl) hk9 aw_nox) ?_
      refine hw_1 (fun k => x_aload dX2_ticket_198 rfl k) ?_
      refine hw_1 (fun k => x_iconst dX2_ticket_200 (by decide) k) ?_
      refine hw_1 (fun k => x_iload_n dX2_ticket_201 rfl k) ?_
      refine hw_1 (fun k => x_i2l dX2_ticket_202 rfl k) ?_
      replace h := ga_bind_some h; obtain ⟨r203, D203, g203, h⟩ := h
      have hR203 := (h_X63_set_ok (G := G) hP195 g203)
      obtain ⟨hP203, hE203, -⟩ := id hR203
      refine hw_call (rest := []) hR203 (fun hc hk9 => x_callV (as := [(0, 2), (1, x2)]) (rest := []) dX2_ticket_203 hc (lw_V q5146 q5147 q5148 q504 q5149) (h_kx hE195 (h_kx hE185 (h_kx hE182 hz170 (by decide)) (by decide)) (by decide)) rfl rfl (show _ ∧ _ ∧ _ ∧ _ = some 2 from by decide +kernel) (by decide) (by decide) rfl (Nat.le_of_ble_eq_true rfl) hk9 aw_nox) ?_
      refine hw_1 (fun k => x_aload dX2_ticket_206 rfl k) ?_
      refine hw_1 (fun k => x_iconst dX2_ticket_208 (by decide) k) ?_
      refine hw_1 (fun k => x_lload_n dX2_ticket_209 rfl k) ?_
      replace h := ga_bind_some h; obtain ⟨r210, D210, g210, h⟩ := h
      have hR210 := (h_X63_set_ok (G := G) hP203 g210)
      obtain ⟨hP210, hE210, -⟩ := id hR210
      refine hw_call (rest := []) hR210 (fun hc hk9 => x_callV (as := [(0, 3), (1, x3)]) (rest := []) dX2_ticket_210 hc (lw_V q5146 q5147 q5148 q504 q5149) (h_kx hE203 (h_kx hE195 (h_kx hE185 (h_kx hE182 hz170 (by decide)) (by decide)) (by decide)) (by decide)) rfl rfl (show _ ∧ _ ∧ _ ∧ _ = some 2 from by decide +kernel) (by decide) (by decide) rfl (Nat.le_of_ble_eq_true rfl) hk9 aw_nox) ?_
      refine hw_1 (fun k => x_aload dX2_ticket_213 rfl k) ?_
      refine hw_1 (fun k => x_iconst dX2_ticket_215 (by decide) k) ?_
      refine hw_1 (fun k => x_lload dX2_ticket_216 rfl k) ?_
      replace h := ga_bind_some h; obtain ⟨r218, D218, g218, h⟩ := h
      have hR218 := (h_X63_set_ok (G := G) hP210 g218)
      obtain ⟨hP218, hE218, -⟩ := id hR218
      refine hw_call (rest := []) hR218 (fun hc hk9 => x_callV (as := [(0, 4), (1, s0)]) (rest := []) dX2_ticket_218 hc (lw_V q5146 q5147 q5148 q504 q5149) (h_kx hE210 (h_kx hE203 (h_kx hE195 (h_kx hE185 (h_kx hE182 hz170 (by decide)) (by decide)) (by decide)) (by decide)) (by decide)) rfl rfl (show _ ∧ _ ∧ _ ∧ _ = some 2 from by decide +kernel) (by decide) (by decide) rfl (Nat.le_of_ble_eq_true rfl) hk9 aw_nox) ?_
      refine hw_1 (fun k => x_aload dX2_ticket_221 rfl k) ?_
      refine hw_1 (fun k => x_bipush dX2_ticket_223 (by decide) k) ?_
      refine hw_1 (fun k => x_lload dX2_ticket_225 rfl k) ?_
      replace h := ga_bind_some h; obtain ⟨r227, D227, g227, h⟩ := h
      have hR227 := (h_X63_set_ok (G := G) hP218 g227)
      obtain ⟨hP227, hE227, -⟩ := id hR227
      refine hw_call (rest := []) hR227 (fun hc hk9 => x_callV (as := [(0, 6), (1, x7)]) (rest := []) dX2_ticket_227 hc (lw_V q5146 q5147 q5148 q504 q5149) (h_kx hE218 (h_kx hE210 (h_kx hE203 (h_kx hE195 (h_kx hE185 (h_kx hE182 hz170 (by decide)) (by decide)) (by decide)) (by decide)) (by decide)) (by decide)) rfl rfl (show _ ∧ _ ∧ _ ∧ _ = some 2 from by decide +kernel) (by decide) (by decide) rfl (Nat.le_of_ble_eq_true rfl) hk9 aw_nox) ?_
      refine hw_1 (fun k => x_aload dX2_ticket_230 rfl k) ?_
      refine hw_1 (fun k => x_bipush dX2_ticket_232 (by decide) k) ?_
      refine hw_1 (fun k => x_iload dX2_ticket_234 rfl k) ?_
      refine hw_1 (fun k => x_i2l dX2_ticket_236 rfl k) ?_
      replace h := ga_bind_some h; obtain ⟨r237, D237, g237, h⟩ := h
      have hR237 := (h_X63_set_ok (G := G) hP227 g237)
      obtain ⟨hP237, hE237, -⟩ := id hR237
      refine hw_call (rest := []) hR237 (fun hc hk9 => x_callV (as := [(0, 7), (1, x9)]) (rest := []) dX2_ticket_237 hc (lw_V q5146 q5147 q5148 q504 q5149) (h_kx hE227 (h_kx hE218 (h_kx hE210 (h_kx hE203 (h_kx hE195 (h_kx hE185 (h_kx hE182 hz170 (by decide)) (by decide)) (by decide)) (by decide)) (by decide)) (by decide)) (by decide)) rfl rfl (show _ ∧ _ ∧ _ ∧ _ = some 2 from by decide +kernel) (by decide) (by decide) rfl (Nat.le_of_ble_eq_true rfl) hk9 aw_nox) ?_
      refine hw_1 (fun k => x_aload_n dX2_ticket_240 rfl k) ?_
      refine hw_1 (fun k => x_getf (v := 4111) dX2_ticket_241 fl_X2_19 (hkS (D := D237) (show ga_K 4097 = (1, 0) from by decide +kernel) (by decide)) (hP237.1 4097 1 4111 (by decide +kernel)) k) ?_
      refine hw_1 (fun k => x_aload dX2_ticket_244 rfl k) ?_
      replace h := ga_bind_some h; obtain ⟨r246, D246, g246, h⟩ := h
      have hR246 := (h_J2_add_ok (G := G) hP237 g246)
      obtain ⟨hP246, hE246, -⟩ := id hR246
      refine hw_call (rest := []) hR246 (fun hc hk9 => x_callV (as := [(2, z170)]) (rest := []) dX2_ticket_246 hc (lw_V q5121 q1941 q1942 q401 q1943) (hkS (D := D237) (show ga_K 4111 = (60, 0) from by decide +kernel) (by decide)) rfl rfl (show _ ∧ _ ∧ _ ∧ _ = some 1 from by decide +kernel) (by decide) (by decide) rfl (Nat.le_of_ble_eq_true rfl) hk9 aw_nox) ?_
      refine hw_1 (fun k => x_pop dX2_ticket_249 rfl k) ?_
      refine hw_1 (fun k => x_aload_n dX2_ticket_250 rfl k) ?_
      refine hw_1 (fun k => x_getf (v := 4098) dX2_ticket_251 fl_X2_10 (hkS (D := D246) (show ga_K 4097 = (1, 0) from by decide +kernel) (by decide)) (hP246.1 4097 0 4098 (by decide +kernel)) k) ?_
      refine hw_1 (fun k => x_aload dX2_ticket_254 rfl k) ?_
      replace h := ga_bind_some h; obtain ⟨r256, D256, g256, h⟩ := h
      have hR256 := (h_X3_ticket_ok (G := G) hP246 g256)
      obtain ⟨hP256, hE256, -⟩ := id hR256
      refine hw_call (rest := []) hR256 (fun hc hk9 => x_callV (as := [(2, z170)]) (rest := []) dX2_ticket_256 hc (lw_V q5150 q5151 q5152 q395 q5153) (hkS (D := D246) (show ga_K 4098 = (2, 0) from by decide +kernel) (by decide)) rfl rfl (show _ ∧ _ ∧ _ ∧ _ = some 1 from by decide +kernel) (by decide) (by decide) rfl (Nat.le_of_ble_eq_true rfl) hk9 aw_nox) ?_
      refine hw_1 (fun k => x_pop dX2_ticket_259 rfl k) ?_
      refine hw_1 (fun k => x_aload_n dX2_ticket_260 rfl k) ?_
      refine hw_1 (fun k => x_getf (v := 4111) dX2_ticket_261 fl_X2_19 (hkS (D := D256) (show ga_K 4097 = (1, 0) from by decide +kernel) (by decide)) (hP256.1 4097 1 4111 (by decide +kernel)) k) ?_
      replace h := ga_bind_some h; obtain ⟨r264, D264, g264, h⟩ := h
      have hR264 := (h_J2_size_ok (G := G) hP256 g264)
      obtain ⟨hP264, hE264, -⟩ := id hR264
      refine hw_call (rest := []) hR264 (fun hc hk9 => x_callV (as := []) (rest := []) dX2_ticket_264 hc (lw_V q5218 q3530 q3531 q401 q3532) (hkS (D := D256) (show ga_K 4111 = (60, 0) from by decide +kernel) (by decide)) rfl rfl (show _ ∧ _ ∧ _ ∧ _ = some 0 from by decide +kernel) (by decide) (by decide) rfl (Nat.le_of_ble_eq_true rfl) hk9 aw_nox) ?_
      refine hw_1 (fun k => x_iconst dX2_ticket_267 (by decide) k) ?_
      refine hw_1 (fun k => x_isub dX2_ticket_268 rfl k) ?_
      obtain ⟨rfl, rfl⟩ := ga_end h
      exact hw_ret hP264 (x_iret dX2_ticket_269 rfl rfl trivial hq)
    · rw [if_neg c142] at h
      refine hw_1 (fun k => x_if_ge (tgt := 170) dX2_ticket_142 (by decide) (fun z => absurd (cmi_ge.mp z) c142) (fun _ => k)) ?_
      refine hw_1 (fun k => x_aload_n dX2_ticket_145 rfl k) ?_
      refine hw_1 (fun k => x_getf (v := 4112) dX2_ticket_146 fl_X2_23 (hkS (D := D) (show ga_K 4097 = (1, 0) from by decide +kernel) (by decide)) (hP.1 4097 2 4112 (by decide +kernel)) k) ?_
      refine hw_1 (fun k => x_aload_n dX2_ticket_149 rfl k) ?_
      refine hw_1 (fun k => x_dup dX2_ticket_150 rfl k) ?_
      refine hw_1 (fun k => x_getf (v := D 4097 4) dX2_ticket_151 fl_X2_93 (hkS (D := D) (show ga_K 4097 = (1, 0) from by decide +kernel) (by decide)) rfl k) ?_
      refine hw_1 (fun k => x_dup_x1 dX2_ticket_154 rfl rfl k) ?_
      refine hw_1 (fun k => x_iconst dX2_ticket_155 (by decide) k) ?_
      refine hw_1 (fun k => x_iadd dX2_ticket_156 rfl k) ?_
      replace h := ga_let_some h; obtain ⟨D157, eD157, h⟩ := h
      refine hw_set eD157 (by decide) (by decide) (fun k => x_putf dX2_ticket_157 fl_X2_93 rfl (hkS (D := D) (show ga_K 4097 = (1, 0) from by decide +kernel) (by decide)) (by decide) trivial k) ?_
      have hP157 : h_P D157 := hP.set eD157 (by decide) (by decide) (hPn (hkS (D := D) (show ga_K 4097 = (1, 0) from by decide +kernel) (by decide)) rfl)
      have hE157 : h_E D D157 := h_E_set eD157 (by decide)
      replace h := ga_bind_some h; obtain ⟨r160, D160, g160, h⟩ := h
      have hR160 := (h_J25_valueOf_ok (G := G) hP157 g160)
      obtain ⟨hP160, hE160, -⟩ := id hR160
      refine hw_call (rest := [(2, 4112)]) hR160 (fun hc hk9 => x_callS (as := [(0, D 4097 4)]) (rest := [(2, 4112)]) dX2_ticket_160 hc (lw_S q5066 q3560 q476 q3561) (show _ ∧ _ ∧ _ = some 1 from by decide +kernel) (by decide) (by decide) rfl (Nat.le_of_ble_eq_true rfl) hk9 aw_nox) ?_
      replace h := ga_bind_some h; obtain ⟨r163, D163, g163, h⟩ := h
      have hR163 := (h_J2_add_ok (G := G) hP160 g163)
      obtain ⟨hP163, hE163, -⟩ := id hR163
      refine hw_call (rest := []) hR163 (fun hc hk9 => x_callV (as := [(2, r160)]) (rest := []) dX2_ticket_163 hc (lw_V q5121 q1941 q1942 q401 q1943) (hkS (D := D160) (show ga_K 4112 = (60, 0) from by decide +kernel) (by decide)) rfl rfl (show _ ∧ _ ∧ _ ∧ _ = some 1 from by decide +kernel) (by decide) (by decide) rfl (Nat.le_of_ble_eq_true rfl) hk9 aw_nox) ?_
      refine hw_1 (fun k => x_pop dX2_ticket_166 rfl k) ?_
      refine hw_1 (fun k => x_bipush dX2_ticket_167 (by decide) k) ?_
      obtain ⟨rfl, rfl⟩ := ga_end h
      exact hw_ret hP163 (x_iret dX2_ticket_169 rfl rfl trivial hq)
  · rw [if_neg c133] at h
    refine hw_1 (fun k => x_if_ne (tgt := 138) dX2_ticket_133 (by decide) (fun z => absurd (cmi_ne.mp z) c133) (fun _ => k)) ?_
    refine hw_1 (fun k => x_iconst dX2_ticket_136 (by decide) k) ?_
    obtain ⟨rfl, rfl⟩ := ga_end h
    exact hw_ret hP (x_iret dX2_ticket_137 rfl rfl trivial hq)
theorem h_X2_ticket_j70_ok {G : aw_G} {M0 : aw_M} {D' : ga_D} {Q : Option aw_V → aw_M → Prop} {r : Int} (hq : Q (some (0, r)) (hM D')) {x1 x2 x3 x5 x7 x9 s0 : Int} {D : ga_D} (hP : h_P D) (h : h_X2_ticket_j70 x1 x2 x3 x5 x7 x9 s0 D = some (r, D')) : aw_HW G "WasteHouse$TicketChain" cX2_ticket (some (.int)) 14 15 false M0 Q aw_no D' (hn D') (hsl D') 70 [(0, (2, 4097)), (1, (0, x1)), (2, (0, x2)), (3, (1, x3)), (5, (1, x5)), (7, (1, x7)), (9, (0, x9))] [(0, s0)] D := by
  unfold h_X2_ticket_j70 at h
  refine hw_1 (fun k => x_istore (ls' := [(10, (0, s0)), (0, (2, 4097)), (1, (0, x1)), (2, (0, x2)), (3, (1, x3)), (5, (1, x5)), (7, (1, x7)), (9, (0, x9))]) dX2_ticket_70 (by decide) rfl k) ?_
  refine hw_1 (fun k => x_iload dX2_ticket_72 rfl k) ?_
  by_cases c74 : s0 = 0
  · rw [if_pos c74] at h
    refine hw_1 (fun k => x_if_eq (tgt := 97) dX2_ticket_74 (by decide) (fun _ => k) (fun z => absurd c74 z)) ?_
    refine hw_1 (fun k => x_iconst dX2_ticket_97 (by decide) k) ?_
    obtain ⟨rfl, rfl⟩ := ga_end h
    exact hw_ret hP (x_iret dX2_ticket_98 rfl rfl trivial hq)
  · rw [if_neg c74] at h
    refine hw_1 (fun k => x_if_eq (tgt := 97) dX2_ticket_74 (by decide) (fun z => absurd z c74) (fun _ => k)) ?_
    refine hw_1 (fun k => x_aload_n dX2_ticket_77 rfl k) ?_
    refine hw_1 (fun k => x_getf (v := 4098) dX2_ticket_78 fl_X2_10 (hkS (D := D) (show ga_K 4097 = (1, 0) from by decide +kernel) (by decide)) (hP.1 4097 0 4098 (by decide +kernel)) k) ?_
    replace h := ga_bind_some h; obtain ⟨r81, D81, g81, h⟩ := h
    have hR81 := (h_X3_isFull_ok (G := G) hP g81)
    obtain ⟨hP81, hE81, -⟩ := id hR81
    refine hw_call (rest := []) hR81 (fun hc hk9 => x_callV (as := []) (rest := []) dX2_ticket_81 hc (lw_V q5114 q5115 q5116 q395 q5117) (hkS (D := D) (show ga_K 4098 = (2, 0) from by decide +kernel) (by decide)) rfl rfl (show _ ∧ _ ∧ _ ∧ _ = some 0 from by decide +kernel) (by decide) (by decide) rfl (Nat.le_of_ble_eq_true rfl) hk9 aw_nox) ?_
    by_cases c84 : r81 ≠ 0
    · rw [if_pos c84] at h
      refine hw_1 (fun k => x_if_ne (tgt := 97) dX2_ticket_84 (by decide) (fun _ => k) (fun z => absurd c84 z)) ?_
      refine hw_1 (fun k => x_iconst dX2_ticket_97 (by decide) k) ?_
      obtain ⟨rfl, rfl⟩ := ga_end h
      exact hw_ret hP81 (x_iret dX2_ticket_98 rfl rfl trivial hq)
    · rw [if_neg c84] at h
      refine hw_1 (fun k => x_if_ne (tgt := 97) dX2_ticket_84 (by decide) (fun z => absurd z c84) (fun _ => k)) ?_
      refine hw_1 (fun k => x_aload_n dX2_ticket_87 rfl k) ?_
      refine hw_1 (fun k => x_getf (v := D81 4097 4) dX2_ticket_88 fl_X2_93 (hkS (D := D81) (show ga_K 4097 = (1, 0) from by decide +kernel) (by decide)) rfl k) ?_
      refine hw_1 (fun k => x_sipush dX2_ticket_91 (by decide) k) ?_
      by_cases c94 : D81 4097 4 ≠ 400
      · rw [if_pos c94] at h
        refine hw_1 (fun k => x_icmp_ne (tgt := 99) dX2_ticket_94 (by decide) (fun _ => k) (fun z => absurd c94 z)) ?_
        refine hw_1 (fun k => x_lload dX2_ticket_99 rfl k) ?_
        refine hw_1 (fun k => x_ldc2 (z := (-1)) dX2_ticket_101 q5096 (by decide) k) ?_
        refine hw_1 (fun k => x_lcmp dX2_ticket_104 rfl k) ?_
        by_cases c105 : x5 ≠ (-1)
        · rw [if_pos c105] at h
          refine hw_1 (fun k => x_if_ne (tgt := 123) dX2_ticket_105 (by decide) (fun _ => k) (fun z => absurd (cmi_ne.mpr c105) z)) ?_
          refine hw_1 (fun k => x_lload dX2_ticket_123 rfl k) ?_
          refine hw_locs [1, 2, 3, 4, 6, 7] (ls' := [(0, (2, 4097)), (1, (0, x1)), (2, (0, x2)), (3, (1, x3)), (7, (1, x7)), (9, (0, x9))]) rfl ?_
          refine h_X2_ticket_j125_ok hq hP81 h
        · rw [if_neg c105] at h
          refine hw_1 (fun k => x_if_ne (tgt := 123) dX2_ticket_105 (by decide) (fun z => absurd (cmi_ne.mp z) c105) (fun _ => k)) ?_
          refine hw_1 (fun k => x_aload_n dX2_ticket_108 rfl k) ?_
          refine hw_1 (fun k => x_iload_n dX2_ticket_109 rfl k) ?_
          refine hw_1 (fun k => x_lload dX2_ticket_110 rfl k) ?_
          refine hw_1 (fun k => x_ldc2 (z := 86400) dX2_ticket_112 q5119 (by decide) k) ?_
          refine hw_1 (fun k => x_ldiv dX2_ticket_115 (by decide) rfl k) ?_
          refine hw_1 (fun k => x_l2i dX2_ticket_116 rfl k) ?_
          replace h := ga_bind_some h; obtain ⟨r117, D117, g117, h⟩ := h
          have hR117 := (h_X2_tareOf_ok (G := G) hP81 g117)
          obtain ⟨hP117, hE117, -⟩ := id hR117
          refine hw_call (rest := []) hR117 (fun hc hk9 => x_callV (as := [(0, x1), (0, aw_w32 (aw_w64 (Int.tdiv x7 86400)))]) (rest := []) dX2_ticket_117 hc (lw_V q5120 q5064 qs76 q394 q5065) (hkS (D := D81) (show ga_K 4097 = (1, 0) from by decide +kernel) (by decide)) rfl rfl (show _ ∧ _ ∧ _ ∧ _ = some 2 from by decide +kernel) (by decide) (by decide) rfl (Nat.le_of_ble_eq_true rfl) hk9 aw_nox) ?_
          refine hw_1 (fun k => x_goto (tgt := 125) dX2_ticket_120 (by decide) k) ?_
          refine hw_locs [1, 2, 3, 4, 6, 7] (ls' := [(0, (2, 4097)), (1, (0, x1)), (2, (0, x2)), (3, (1, x3)), (7, (1, x7)), (9, (0, x9))]) rfl ?_
          refine h_X2_ticket_j125_ok hq hP117 h
      · rw [if_neg c94] at h
        refine hw_1 (fun k => x_icmp_ne (tgt := 99) dX2_ticket_94 (by decide) (fun z => absurd z c94) (fun _ => k)) ?_
        refine hw_1 (fun k => x_iconst dX2_ticket_97 (by decide) k) ?_
        obtain ⟨rfl, rfl⟩ := ga_end h
        exact hw_ret hP81 (x_iret dX2_ticket_98 rfl rfl trivial hq)
theorem h_X2_ticket_j69_ok {G : aw_G} {M0 : aw_M} {D' : ga_D} {Q : Option aw_V → aw_M → Prop} {r : Int} (hq : Q (some (0, r)) (hM D')) {x1 x2 x3 x5 x7 x9 : Int} {D : ga_D} (hP : h_P D) (h : h_X2_ticket_j69 x1 x2 x3 x5 x7 x9 D = some (r, D')) : aw_HW G "WasteHouse$TicketChain" cX2_ticket (some (.int)) 14 15 false M0 Q aw_no D' (hn D') (hsl D') 69 [(0, (2, 4097)), (1, (0, x1)), (2, (0, x2)), (3, (1, x3)), (5, (1, x5)), (7, (1, x7)), (9, (0, x9))] [] D := by
  unfold h_X2_ticket_j69 at h
  refine hw_1 (fun k => x_iconst dX2_ticket_69 (by decide) k) ?_
  refine h_X2_ticket_j70_ok hq hP h
theorem h_X2_ticket_j44_ok {G : aw_G} {M0 : aw_M} {D' : ga_D} {Q : Option aw_V → aw_M → Prop} {r : Int} (hq : Q (some (0, r)) (hM D')) {x1 x2 x3 x5 x7 x9 : Int} {D : ga_D} (hP : h_P D) (h : h_X2_ticket_j44 x1 x2 x3 x5 x7 x9 D = some (r, D')) : aw_HW G "WasteHouse$TicketChain" cX2_ticket (some (.int)) 14 15 false M0 Q aw_no D' (hn D') (hsl D') 44 [(0, (2, 4097)), (1, (0, x1)), (2, (0, x2)), (3, (1, x3)), (5, (1, x5)), (7, (1, x7)), (9, (0, x9))] [] D := by
  unfold h_X2_ticket_j44 at h
  refine hw_1 (fun k => x_bipush dX2_ticket_44 (by decide) k) ?_
  refine hw_1 (fun k => x_lload dX2_ticket_46 rfl k) ?_
  replace h := ga_bind_some h; obtain ⟨r48, D48, g48, h⟩ := h
  have hR48 := (h_X63_fits_ok (G := G) hP g48)
  obtain ⟨hP48, hE48, -⟩ := id hR48
  refine hw_call (rest := []) hR48 (fun hc hk9 => x_callS (as := [(0, 6), (1, x7)]) (rest := []) dX2_ticket_48 hc (lw_S q5106 q5107 q504 q5108) (show _ ∧ _ ∧ _ = some 2 from by decide +kernel) (by decide) (by decide) rfl (Nat.le_of_ble_eq_true rfl) hk9 aw_nox) ?_
  by_cases c51 : r48 = 0
  · rw [if_pos c51] at h
    refine hw_1 (fun k => x_if_eq (tgt := 69) dX2_ticket_51 (by decide) (fun _ => k) (fun z => absurd c51 z)) ?_
    refine h_X2_ticket_j69_ok hq hP48 h
  · rw [if_neg c51] at h
    refine hw_1 (fun k => x_if_eq (tgt := 69) dX2_ticket_51 (by decide) (fun z => absurd z c51) (fun _ => k)) ?_
    refine hw_1 (fun k => x_bipush dX2_ticket_54 (by decide) k) ?_
    refine hw_1 (fun k => x_iload dX2_ticket_56 rfl k) ?_
    refine hw_1 (fun k => x_i2l dX2_ticket_58 rfl k) ?_
    replace h := ga_bind_some h; obtain ⟨r59, D59, g59, h⟩ := h
    have hR59 := (h_X63_fits_ok (G := G) hP48 g59)
    obtain ⟨hP59, hE59, -⟩ := id hR59
    refine hw_call (rest := []) hR59 (fun hc hk9 => x_callS (as := [(0, 7), (1, x9)]) (rest := []) dX2_ticket_59 hc (lw_S q5106 q5107 q504 q5108) (show _ ∧ _ ∧ _ = some 2 from by decide +kernel) (by decide) (by decide) rfl (Nat.le_of_ble_eq_true rfl) hk9 aw_nox) ?_
    by_cases c62 : r59 = 0
    · rw [if_pos c62] at h
      refine hw_1 (fun k => x_if_eq (tgt := 69) dX2_ticket_62 (by decide) (fun _ => k) (fun z => absurd c62 z)) ?_
      refine h_X2_ticket_j69_ok hq hP59 h
    · rw [if_neg c62] at h
      refine hw_1 (fun k => x_if_eq (tgt := 69) dX2_ticket_62 (by decide) (fun z => absurd z c62) (fun _ => k)) ?_
      refine hw_1 (fun k => x_iconst dX2_ticket_65 (by decide) k) ?_
      refine hw_1 (fun k => x_goto (tgt := 70) dX2_ticket_66 (by decide) k) ?_
      refine h_X2_ticket_j70_ok hq hP59 h
theorem h_X2_ticket_ok {G : aw_G} {D D' : ga_D} {r : Int} {x1 x2 x3 x5 x7 x9 : Int} (hP : h_P D) (h : h_X2_ticket x1 x2 x3 x5 x7 x9 D = some (r, D')) : aw_HR yX2_ticket cX2_ticket 14 (some (.int)) 15 G [(2, 4097), (0, x1), (0, x2), (1, x3), (1, x5), (1, x7), (0, x9)] D (some (0, r)) D' := by
  unfold h_X2_ticket at h
  refine hw_body (own := "WasteHouse$TicketChain") (ini := false) (ls := [(0, (2, 4097)), (1, (0, x1)), (2, (0, x2)), (3, (1, x3)), (5, (1, x5)), (7, (1, x7)), (9, (0, x9))]) rfl rfl (fun h => by cases h) (Nat.le_of_ble_eq_true rfl) rfl fun Q hq => ?_
  refine hw_1 (fun k => x_iconst dX2_ticket_0 (by decide) k) ?_
  refine hw_1 (fun k => x_iload_n dX2_ticket_1 rfl k) ?_
  refine hw_1 (fun k => x_i2l dX2_ticket_2 rfl k) ?_
  replace h := ga_bind_some h; obtain ⟨r3, D3, g3, h⟩ := h
  have hR3 := (h_X63_fits_ok (G := G) hP g3)
  obtain ⟨hP3, hE3, -⟩ := id hR3
  refine hw_call (rest := []) hR3 (fun hc hk9 => x_callS (as := [(0, 1), (1, x1)]) (rest := []) dX2_ticket_3 hc (lw_S q5106 q5107 q504 q5108) (show _ ∧ _ ∧ _ = some 2 from by decide +kernel) (by decide) (by decide) rfl (Nat.le_of_ble_eq_true rfl) hk9 aw_nox) ?_
  by_cases c6 : r3 = 0
  · rw [if_pos c6] at h
    refine hw_1 (fun k => x_if_eq (tgt := 69) dX2_ticket_6 (by decide) (fun _ => k) (fun z => absurd c6 z)) ?_
    refine h_X2_ticket_j69_ok hq hP3 h
  · rw [if_neg c6] at h
    refine hw_1 (fun k => x_if_eq (tgt := 69) dX2_ticket_6 (by decide) (fun z => absurd z c6) (fun _ => k)) ?_
    refine hw_1 (fun k => x_iconst dX2_ticket_9 (by decide) k) ?_
    refine hw_1 (fun k => x_iload_n dX2_ticket_10 rfl k) ?_
    refine hw_1 (fun k => x_i2l dX2_ticket_11 rfl k) ?_
    replace h := ga_bind_some h; obtain ⟨r12, D12, g12, h⟩ := h
    have hR12 := (h_X63_fits_ok (G := G) hP3 g12)
    obtain ⟨hP12, hE12, -⟩ := id hR12
    refine hw_call (rest := []) hR12 (fun hc hk9 => x_callS (as := [(0, 2), (1, x2)]) (rest := []) dX2_ticket_12 hc (lw_S q5106 q5107 q504 q5108) (show _ ∧ _ ∧ _ = some 2 from by decide +kernel) (by decide) (by decide) rfl (Nat.le_of_ble_eq_true rfl) hk9 aw_nox) ?_
    by_cases c15 : r12 = 0
    · rw [if_pos c15] at h
      refine hw_1 (fun k => x_if_eq (tgt := 69) dX2_ticket_15 (by decide) (fun _ => k) (fun z => absurd c15 z)) ?_
      refine h_X2_ticket_j69_ok hq hP12 h
    · rw [if_neg c15] at h
      refine hw_1 (fun k => x_if_eq (tgt := 69) dX2_ticket_15 (by decide) (fun z => absurd z c15) (fun _ => k)) ?_
      refine hw_1 (fun k => x_iconst dX2_ticket_18 (by decide) k) ?_
      refine hw_1 (fun k => x_lload_n dX2_ticket_19 rfl k) ?_
      replace h := ga_bind_some h; obtain ⟨r20, D20, g20, h⟩ := h
      have hR20 := (h_X63_fits_ok (G := G) hP12 g20)
      obtain ⟨hP20, hE20, -⟩ := id hR20
      refine hw_call (rest := []) hR20 (fun hc hk9 => x_callS (as := [(0, 3), (1, x3)]) (rest := []) dX2_ticket_20 hc (lw_S q5106 q5107 q504 q5108) (show _ ∧ _ ∧ _ = some 2 from by decide +kernel) (by decide) (by decide) rfl (Nat.le_of_ble_eq_true rfl) hk9 aw_nox) ?_
      by_cases c23 : r20 = 0
      · rw [if_pos c23] at h
        refine hw_1 (fun k => x_if_eq (tgt := 69) dX2_ticket_23 (by decide) (fun _ => k) (fun z => absurd c23 z)) ?_
        refine h_X2_ticket_j69_ok hq hP20 h
      · rw [if_neg c23] at h
        refine hw_1 (fun k => x_if_eq (tgt := 69) dX2_ticket_23 (by decide) (fun z => absurd z c23) (fun _ => k)) ?_
        refine hw_1 (fun k => x_lload dX2_ticket_26 rfl k) ?_
        refine hw_1 (fun k => x_ldc2 (z := (-1)) dX2_ticket_28 q5096 (by decide) k) ?_
        refine hw_1 (fun k => x_lcmp dX2_ticket_31 rfl k) ?_
        by_cases c32 : x5 = (-1)
        · rw [if_pos c32] at h
          refine hw_1 (fun k => x_if_eq (tgt := 44) dX2_ticket_32 (by decide) (fun _ => k) (fun z => absurd (cmi_eq.mpr c32) z)) ?_
          refine h_X2_ticket_j44_ok hq hP20 h
        · rw [if_neg c32] at h
          refine hw_1 (fun k => x_if_eq (tgt := 44) dX2_ticket_32 (by decide) (fun z => absurd (cmi_eq.mp z) c32) (fun _ => k)) ?_
          refine hw_1 (fun k => x_iconst dX2_ticket_35 (by decide) k) ?_
          refine hw_1 (fun k => x_lload dX2_ticket_36 rfl k) ?_
          replace h := ga_bind_some h; obtain ⟨r38, D38, g38, h⟩ := h
          have hR38 := (h_X63_fits_ok (G := G) hP20 g38)
          obtain ⟨hP38, hE38, -⟩ := id hR38
          refine hw_call (rest := []) hR38 (fun hc hk9 => x_callS (as := [(0, 4), (1, x5)]) (rest := []) dX2_ticket_38 hc (lw_S q5106 q5107 q504 q5108) (show _ ∧ _ ∧ _ = some 2 from by decide +kernel) (by decide) (by decide) rfl (Nat.le_of_ble_eq_true rfl) hk9 aw_nox) ?_
          by_cases c41 : r38 = 0
          · rw [if_pos c41] at h
            refine hw_1 (fun k => x_if_eq (tgt := 69) dX2_ticket_41 (by decide) (fun _ => k) (fun z => absurd c41 z)) ?_
            refine h_X2_ticket_j69_ok hq hP38 h
          · rw [if_neg c41] at h
            refine hw_1 (fun k => x_if_eq (tgt := 69) dX2_ticket_41 (by decide) (fun z => absurd z c41) (fun _ => k)) ?_
            refine h_X2_ticket_j44_ok hq hP38 h
theorem h_X2_isTicket_ok {G : aw_G} {D D' : ga_D} {r : Int} {x1 : Int} (hP : h_P D) (h : h_X2_isTicket x1 D = some (r, D')) : aw_HR yX2_isTicket cX2_isTicket 2 (some (.boolean)) 1 G [(2, 4097), (0, x1)] D (some (0, r)) D' := by
  unfold h_X2_isTicket at h
  refine hw_body (own := "WasteHouse$TicketChain") (ini := false) (ls := [(0, (2, 4097)), (1, (0, x1))]) rfl rfl (fun h => by cases h) (Nat.le_of_ble_eq_true rfl) rfl fun Q hq => ?_
  refine hw_1 (fun k => x_iload_n dX2_isTicket_0 rfl k) ?_
  by_cases c1 : x1 < 0
  · rw [if_pos c1] at h
    refine hw_1 (fun k => x_if_lt (tgt := 19) dX2_isTicket_1 (by decide) (fun _ => k) (fun z => absurd c1 z)) ?_
    refine hw_1 (fun k => x_iconst dX2_isTicket_19 (by decide) k) ?_
    obtain ⟨rfl, rfl⟩ := ga_end h
    exact hw_ret hP (x_iret dX2_isTicket_20 rfl rfl (show (0 : Int) ≤ 0 ∧ (0 : Int) < 2 from by decide) hq)
  · rw [if_neg c1] at h
    refine hw_1 (fun k => x_if_lt (tgt := 19) dX2_isTicket_1 (by decide) (fun z => absurd z c1) (fun _ => k)) ?_
    refine hw_1 (fun k => x_iload_n dX2_isTicket_4 rfl k) ?_
    refine hw_1 (fun k => x_aload_n dX2_isTicket_5 rfl k) ?_
    refine hw_1 (fun k => x_getf (v := 4111) dX2_isTicket_6 fl_X2_19 (hkS (D := D) (show ga_K 4097 = (1, 0) from by decide +kernel) (by decide)) (hP.1 4097 1 4111 (by decide +kernel)) k) ?_
    replace h := ga_bind_some h; obtain ⟨r9, D9, g9, h⟩ := h
    have hR9 := (h_J2_size_ok (G := G) hP g9)
    obtain ⟨hP9, hE9, -⟩ := id hR9
    refine hw_call (rest := [(0, x1)]) hR9 (fun hc hk9 => x_callV (as := []) (rest := [(0, x1)]) dX2_isTicket_9 hc (lw_V q5218 q3530 q3531 q401 q3532) (hkS (D := D) (show ga_K 4111 = (60, 0) from by decide +kernel) (by decide)) rfl rfl (show _ ∧ _ ∧ _ ∧ _ = some 0 from by decide +kernel) (by decide) (by decide) rfl (Nat.le_of_ble_eq_true rfl) hk9 aw_nox) ?_
    by_cases c12 : r9 ≤ x1
    · rw [if_pos c12] at h
      refine hw_1 (fun k => x_icmp_ge (tgt := 19) dX2_isTicket_12 (by decide) (fun _ => k) (fun z => absurd c12 z)) ?_
      refine hw_1 (fun k => x_iconst dX2_isTicket_19 (by decide) k) ?_
      obtain ⟨rfl, rfl⟩ := ga_end h
      exact hw_ret hP9 (x_iret dX2_isTicket_20 rfl rfl (show (0 : Int) ≤ 0 ∧ (0 : Int) < 2 from by decide) hq)
    · rw [if_neg c12] at h
      refine hw_1 (fun k => x_icmp_ge (tgt := 19) dX2_isTicket_12 (by decide) (fun z => absurd z c12) (fun _ => k)) ?_
      refine hw_1 (fun k => x_iconst dX2_isTicket_15 (by decide) k) ?_
      refine hw_1 (fun k => x_goto (tgt := 20) dX2_isTicket_16 (by decide) k) ?_
      obtain ⟨rfl, rfl⟩ := ga_end h
      exact hw_ret hP9 (x_iret dX2_isTicket_20 rfl rfl (show (0 : Int) ≤ 1 ∧ (1 : Int) < 2 from by decide) hq)
theorem h_X63_isVoid_ok {G : aw_G} {D D' : ga_D} {r : Int} {x0 : Int} (hP : h_P D) (h : h_X63_isVoid x0 D = some (r, D')) : aw_HR yX63_isVoid cX63_isVoid 1 (some (.boolean)) 0 G [(2, x0)] D (some (0, r)) D' := by
  unfold h_X63_isVoid at h
  refine hw_body (own := "WasteHouse$TicketChain$Ticket") (ini := false) (ls := [(0, (2, x0))]) rfl rfl (fun h => by cases h) (Nat.le_of_ble_eq_true rfl) rfl fun Q hq => ?_
  refine hw_1 (fun k => x_aload_n dX63_isVoid_0 rfl k) ?_
  replace h := ga_ck_some h; obtain ⟨hc1_0, h⟩ := h
  refine hw_1 (fun k => x_getf (v := D x0 1) dX63_isVoid_1 fl_X63_9 hc1_0 rfl k) ?_
  refine hw_1 (fun k => x_bipush dX63_isVoid_4 (by decide) k) ?_
  replace h := ga_ck_some h; obtain ⟨hc6_1, h⟩ := h
  replace h := ga_ck_some h; obtain ⟨hc6_2, h⟩ := h
  refine hw_1 (fun k => x_lald (v := D (D x0 1) 8) dX63_isVoid_6 (hk_p hc6_1) hc6_2.1 hc6_2.2 rfl k) ?_
  refine hw_1 (fun k => x_lconst (v := 0) dX63_isVoid_7 rfl k) ?_
  refine hw_1 (fun k => x_lcmp dX63_isVoid_8 rfl k) ?_
  by_cases c9 : D (D x0 1) 8 ≤ 0
  · rw [if_pos c9] at h
    refine hw_1 (fun k => x_if_le (tgt := 16) dX63_isVoid_9 (by decide) (fun _ => k) (fun z => absurd (cmi_le.mpr c9) z)) ?_
    refine hw_1 (fun k => x_iconst dX63_isVoid_16 (by decide) k) ?_
    obtain ⟨rfl, rfl⟩ := ga_end h
    exact hw_ret hP (x_iret dX63_isVoid_17 rfl rfl (show (0 : Int) ≤ 0 ∧ (0 : Int) < 2 from by decide) hq)
  · rw [if_neg c9] at h
    refine hw_1 (fun k => x_if_le (tgt := 16) dX63_isVoid_9 (by decide) (fun z => absurd (cmi_le.mp z) c9) (fun _ => k)) ?_
    refine hw_1 (fun k => x_iconst dX63_isVoid_12 (by decide) k) ?_
    refine hw_1 (fun k => x_goto (tgt := 17) dX63_isVoid_13 (by decide) k) ?_
    obtain ⟨rfl, rfl⟩ := ga_end h
    exact hw_ret hP (x_iret dX63_isVoid_17 rfl rfl (show (0 : Int) ≤ 1 ∧ (1 : Int) < 2 from by decide) hq)
theorem h_X63_divide_l14_ok {G : aw_G} {M0 : aw_M} {D' : ga_D} {Q : Option aw_V → aw_M → Prop} {r : Int} (hq : Q (some (0, r)) (hM D')) {k38 : Int → Int → ga_D → ga_S} (hk38 : ∀ (x0 x1 : Int) (D : ga_D), h_P D → k38 x0 x1 D = some (r, D') → aw_HW G "WasteHouse$TicketChain$Ticket" cX63_divide (some (.boolean)) 9 1 false M0 Q aw_no D' (hn D') (hsl D') 38 [(0, (2, x0)), (1, (1, x1))] [] D) : ∀ {n : Nat} {x0 x1 x3 x4 x5 : Int} {D : ga_D}, h_P D → h_X63_divide_l14 n x0 x1 x3 x4 x5 D k38 = some (r, D') → aw_HW G "WasteHouse$TicketChain$Ticket" cX63_divide (some (.boolean)) 9 1 false M0 Q aw_no D' (hn D') (hsl D') 14 [(0, (2, x0)), (1, (1, x1)), (3, (2, x3)), (4, (0, x4)), (5, (0, x5))] [] D := by
  intro n
  induction n with
  | zero => intro x0 x1 x3 x4 x5 D hP h; exact absurd (h : (none : ga_S) = some (r, D')) (by intro h; cases h)
  | succ n ih =>
    intro x0 x1 x3 x4 x5 D hP h
    have ih : ∀ (x0 x1 x3 x4 x5 : Int) (D : ga_D), h_P D → h_X63_divide_l14 n x0 x1 x3 x4 x5 D k38 = some (r, D') → aw_HW G "WasteHouse$TicketChain$Ticket" cX63_divide (some (.boolean)) 9 1 false M0 Q aw_no D' (hn D') (hsl D') 14 [(0, (2, x0)), (1, (1, x1)), (3, (2, x3)), (4, (0, x4)), (5, (0, x5))] [] D := fun x0 x1 x3 x4 x5 D hP h => ih hP h
    replace h : (if x4 ≤ x5 then (k38 x0 x1 D) else (ga_ck ((hk D x3).1 = 1001) (ga_ck (0 ≤ x5 ∧ x5 < (hk D x3).2) (ga_let (D x3 x5) (fun v25 => ga_let (aw_w64 (x1 + v25)) (fun v31 => ga_let (aw_w32 (x5 + 1)) (fun v32 => h_X63_divide_l14 n x0 v31 x3 x4 v32 D k38)))))) : ga_S) = some (r, D') := h
    refine hw_1 (fun k => x_iload dX63_divide_14 rfl k) ?_
    refine hw_1 (fun k => x_iload dX63_divide_16 rfl k) ?_
    by_cases c18 : x4 ≤ x5
    · rw [if_pos c18] at h
      refine hw_1 (fun k => x_icmp_ge (tgt := 38) dX63_divide_18 (by decide) (fun _ => k) (fun z => absurd c18 z)) ?_
      refine hw_locs [0, 1] (ls' := [(0, (2, x0)), (1, (1, x1))]) rfl ?_
      exact hk38 _ _ _ hP h
    · rw [if_neg c18] at h
      refine hw_1 (fun k => x_icmp_ge (tgt := 38) dX63_divide_18 (by decide) (fun z => absurd z c18) (fun _ => k)) ?_
      refine hw_1 (fun k => x_aload_n dX63_divide_21 rfl k) ?_
      refine hw_1 (fun k => x_iload dX63_divide_22 rfl k) ?_
      replace h := ga_ck_some h; obtain ⟨hc24_0, h⟩ := h
      replace h := ga_ck_some h; obtain ⟨hc24_1, h⟩ := h
      refine hw_1 (fun k => x_lald (v := D x3 x5) dX63_divide_24 (hk_p hc24_0) hc24_1.1 hc24_1.2 rfl k) ?_
      replace h := ga_let_some h; obtain ⟨v25, ev25, h⟩ := h
      refine hw_nm ev25 ?_
      refine hw_1 (fun k => x_lstore (ls' := [(6, (1, v25)), (0, (2, x0)), (1, (1, x1)), (3, (2, x3)), (4, (0, x4)), (5, (0, x5))]) dX63_divide_25 (by decide) rfl k) ?_
      refine hw_1 (fun k => x_lload_n dX63_divide_27 rfl k) ?_
      refine hw_1 (fun k => x_lload dX63_divide_28 rfl k) ?_
      refine hw_1 (fun k => x_ladd dX63_divide_30 rfl k) ?_
      replace h := ga_let_some h; obtain ⟨v31, ev31, h⟩ := h
      refine hw_nm ev31 ?_
      refine hw_1 (fun k => x_lstore_n (ls' := [(1, (1, v31)), (6, (1, v25)), (0, (2, x0)), (3, (2, x3)), (4, (0, x4)), (5, (0, x5))]) dX63_divide_31 (by decide) rfl k) ?_
      replace h := ga_let_some h; obtain ⟨v32, ev32, h⟩ := h
      refine hw_1 (fun k => x_iinc (ls' := [(5, (0, v32)), (1, (1, v31)), (6, (1, v25)), (0, (2, x0)), (3, (2, x3)), (4, (0, x4))]) dX63_divide_32 rfl ev32.symm (by decide) rfl k) ?_
      refine hw_1 (fun k => x_goto (tgt := 14) dX63_divide_35 (by decide) k) ?_
      refine hw_locs [3, 1, 4, 5, 0] (ls' := [(0, (2, x0)), (1, (1, v31)), (3, (2, x3)), (4, (0, x4)), (5, (0, v32))]) rfl ?_
      exact ih _ _ _ _ _ _ hP h
theorem h_X63_divide_l69_ok {G : aw_G} {M0 : aw_M} {D' : ga_D} {Q : Option aw_V → aw_M → Prop} {r : Int} (hq : Q (some (0, r)) (hM D')) {k130 : Int → Int → ga_D → ga_S} (hk130 : ∀ (x0 x5 : Int) (D : ga_D), h_P D → k130 x0 x5 D = some (r, D') → aw_HW G "WasteHouse$TicketChain$Ticket" cX63_divide (some (.boolean)) 9 1 false M0 Q aw_no D' (hn D') (hsl D') 130 [(0, (2, x0)), (5, (1, x5))] [] D) : ∀ {n : Nat} {x0 x1 x3 x5 x7 : Int} {D : ga_D}, h_P D → h_X63_divide_l69 n x0 x1 x3 x5 x7 D k130 = some (r, D') → aw_HW G "WasteHouse$TicketChain$Ticket" cX63_divide (some (.boolean)) 9 1 false M0 Q aw_no D' (hn D') (hsl D') 69 [(0, (2, x0)), (1, (1, x1)), (3, (1, x3)), (5, (1, x5)), (7, (0, x7))] [] D := by
  intro n
  induction n with
  | zero => intro x0 x1 x3 x5 x7 D hP h; exact absurd (h : (none : ga_S) = some (r, D')) (by intro h; cases h)
  | succ n ih =>
    intro x0 x1 x3 x5 x7 D hP h
    have ih : ∀ (x0 x1 x3 x5 x7 : Int) (D : ga_D), h_P D → h_X63_divide_l69 n x0 x1 x3 x5 x7 D k130 = some (r, D') → aw_HW G "WasteHouse$TicketChain$Ticket" cX63_divide (some (.boolean)) 9 1 false M0 Q aw_no D' (hn D') (hsl D') 69 [(0, (2, x0)), (1, (1, x1)), (3, (1, x3)), (5, (1, x5)), (7, (0, x7))] [] D := fun x0 x1 x3 x5 x7 D hP h => ih hP h
    replace h : (if 8 ≤ x7 then (k130 x0 x5 D) else (ga_ck (hk D x0 = (58, 0)) (ga_ck ((hk D (D x0 2)).1 = 1001) (ga_ck (0 ≤ x7 ∧ x7 < (hk D (D x0 2)).2) (ga_ck (x1 ≠ 0) (ga_ck ((hk D (D x0 3)).1 = 1001) (ga_ck (4096 ≤ D x0 3) (ga_ck (0 ≤ x7 ∧ x7 < (hk D (D x0 3)).2) (ga_let (ga_set D (D x0 3) x7 (aw_w64 (Int.tdiv (aw_w64 (x3 * (D (D x0 2) x7))) x1))) (fun D93 => ga_ck ((hk D93 (D93 x0 2)).1 = 1001) (ga_ck (0 ≤ x7 ∧ x7 < (hk D93 (D93 x0 2)).2) (ga_ck (x1 ≠ 0) (ga_ck ((hk D93 (D93 x0 4)).1 = 1001) (ga_ck (4096 ≤ D93 x0 4) (ga_ck (0 ≤ x7 ∧ x7 < (hk D93 (D93 x0 4)).2) (ga_let (ga_set D93 (D93 x0 4) x7 (Int.tmod (aw_w64 (x3 * (D93 (D93 x0 2) x7))) x1)) (fun D111 => ga_ck ((hk D111 (D111 x0 3)).1 = 1001) (ga_ck (0 ≤ x7 ∧ x7 < (hk D111 (D111 x0 3)).2) (ga_let (aw_w64 (x5 - (D111 (D111 x0 3) x7))) (fun v122 => ga_let (aw_w32 (x7 + 1)) (fun v124 => h_X63_divide_l69 n x0 x1 x3 v122 v124 D111 k130)))))))))))))))))))) : ga_S) = some (r, D') := h
    refine hw_1 (fun k => x_iload dX63_divide_69 rfl k) ?_
    refine hw_1 (fun k => x_bipush dX63_divide_71 (by decide) k) ?_
    by_cases c73 : 8 ≤ x7
    · rw [if_pos c73] at h
      refine hw_1 (fun k => x_icmp_ge (tgt := 130) dX63_divide_73 (by decide) (fun _ => k) (fun z => absurd c73 z)) ?_
      refine hw_locs [0, 3] (ls' := [(0, (2, x0)), (5, (1, x5))]) rfl ?_
      exact hk130 _ _ _ hP h
    · rw [if_neg c73] at h
      refine hw_1 (fun k => x_icmp_ge (tgt := 130) dX63_divide_73 (by decide) (fun z => absurd z c73) (fun _ => k)) ?_
      refine hw_1 (fun k => x_aload_n dX63_divide_76 rfl k) ?_
      replace h := ga_ck_some h; obtain ⟨hc77_0, h⟩ := h
      refine hw_1 (fun k => x_getf (v := D x0 3) dX63_divide_77 fl_X63_18 hc77_0 rfl k) ?_
      refine hw_1 (fun k => x_iload dX63_divide_80 rfl k) ?_
      refine hw_1 (fun k => x_lload_n dX63_divide_82 rfl k) ?_
      refine hw_1 (fun k => x_aload_n dX63_divide_83 rfl k) ?_
      refine hw_1 (fun k => x_getf (v := D x0 2) dX63_divide_84 fl_X63_15 hc77_0 rfl k) ?_
      refine hw_1 (fun k => x_iload dX63_divide_87 rfl k) ?_
      replace h := ga_ck_some h; obtain ⟨hc89_1, h⟩ := h
      replace h := ga_ck_some h; obtain ⟨hc89_2, h⟩ := h
      refine hw_1 (fun k => x_lald (v := D (D x0 2) x7) dX63_divide_89 (hk_p hc89_1) hc89_2.1 hc89_2.2 rfl k) ?_
      refine hw_1 (fun k => x_lmul dX63_divide_90 rfl k) ?_
      refine hw_1 (fun k => x_lload_n dX63_divide_91 rfl k) ?_
      replace h := ga_ck_some h; obtain ⟨hc92_3, h⟩ := h
      refine hw_1 (fun k => x_ldiv dX63_divide_92 hc92_3 rfl k) ?_
      replace h := ga_ck_some h; obtain ⟨hc93_4, h⟩ := h
      replace h := ga_ck_some h; obtain ⟨hc93_5, h⟩ := h
      replace h := ga_ck_some h; obtain ⟨hc93_6, h⟩ := h
      replace h := ga_let_some h; obtain ⟨D93, eD93, h⟩ := h
      refine hw_set eD93 (Int.le_trans (by decide) hc93_5) hc93_6.1 (fun k => x_last dX63_divide_93 (hk_p hc93_4) hc93_5 hc93_6.1 hc93_6.2 k) ?_
      have hP93 : h_P D93 := hP.set eD93 hc93_5 hc93_6.1 (hPn (hk_p hc93_4) rfl)
      have hE93 : h_E D D93 := h_E_set eD93 hc93_6.1
      refine hw_1 (fun k => x_aload_n dX63_divide_94 rfl k) ?_
      refine hw_1 (fun k => x_getf (v := D93 x0 4) dX63_divide_95 fl_X63_21 (h_kx hE93 hc77_0 (by decide)) rfl k) ?_
      refine hw_1 (fun k => x_iload dX63_divide_98 rfl k) ?_
      refine hw_1 (fun k => x_lload_n dX63_divide_100 rfl k) ?_
      refine hw_1 (fun k => x_aload_n dX63_divide_101 rfl k) ?_
      refine hw_1 (fun k => x_getf (v := D93 x0 2) dX63_divide_102 fl_X63_15 (h_kx hE93 hc77_0 (by decide)) rfl k) ?_
      refine hw_1 (fun k => x_iload dX63_divide_105 rfl k) ?_
      replace h := ga_ck_some h; obtain ⟨hc107_7, h⟩ := h
      replace h := ga_ck_some h; obtain ⟨hc107_8, h⟩ := h
      refine hw_1 (fun k => x_lald (v := D93 (D93 x0 2) x7) dX63_divide_107 (hk_p hc107_7) hc107_8.1 hc107_8.2 rfl k) ?_
      refine hw_1 (fun k => x_lmul dX63_divide_108 rfl k) ?_
      refine hw_1 (fun k => x_lload_n dX63_divide_109 rfl k) ?_
      replace h := ga_ck_some h; obtain ⟨hc110_9, h⟩ := h
      refine hw_1 (fun k => x_lrem dX63_divide_110 hc110_9 rfl k) ?_
      replace h := ga_ck_some h; obtain ⟨hc111_10, h⟩ := h
      replace h := ga_ck_some h; obtain ⟨hc111_11, h⟩ := h
      replace h := ga_ck_some h; obtain ⟨hc111_12, h⟩ := h
      replace h := ga_let_some h; obtain ⟨D111, eD111, h⟩ := h
      refine hw_set eD111 (Int.le_trans (by decide) hc111_11) hc111_12.1 (fun k => x_last dX63_divide_111 (hk_p hc111_10) hc111_11 hc111_12.1 hc111_12.2 k) ?_
      have hP111 : h_P D111 := hP93.set eD111 hc111_11 hc111_12.1 (hPn (hk_p hc111_10) rfl)
      have hE111 : h_E D93 D111 := h_E_set eD111 hc111_12.1
      refine hw_1 (fun k => x_lload dX63_divide_112 rfl k) ?_
      refine hw_1 (fun k => x_aload_n dX63_divide_114 rfl k) ?_
      refine hw_1 (fun k => x_getf (v := D111 x0 3) dX63_divide_115 fl_X63_18 (h_kx hE111 (h_kx hE93 hc77_0 (by decide)) (by decide)) rfl k) ?_
      refine hw_1 (fun k => x_iload dX63_divide_118 rfl k) ?_
      replace h := ga_ck_some h; obtain ⟨hc120_13, h⟩ := h
      replace h := ga_ck_some h; obtain ⟨hc120_14, h⟩ := h
      refine hw_1 (fun k => x_lald (v := D111 (D111 x0 3) x7) dX63_divide_120 (hk_p hc120_13) hc120_14.1 hc120_14.2 rfl k) ?_
      refine hw_1 (fun k => x_lsub dX63_divide_121 rfl k) ?_
      replace h := ga_let_some h; obtain ⟨v122, ev122, h⟩ := h
      refine hw_nm ev122 ?_
      refine hw_1 (fun k => x_lstore (ls' := [(5, (1, v122)), (0, (2, x0)), (1, (1, x1)), (3, (1, x3)), (7, (0, x7))]) dX63_divide_122 (by decide) rfl k) ?_
      replace h := ga_let_some h; obtain ⟨v124, ev124, h⟩ := h
      refine hw_1 (fun k => x_iinc (ls' := [(7, (0, v124)), (5, (1, v122)), (0, (2, x0)), (1, (1, x1)), (3, (1, x3))]) dX63_divide_124 rfl ev124.symm (by decide) rfl k) ?_
      refine hw_1 (fun k => x_goto (tgt := 69) dX63_divide_127 (by decide) k) ?_
      refine hw_locs [2, 3, 4, 1, 0] (ls' := [(0, (2, x0)), (1, (1, x1)), (3, (1, x3)), (5, (1, v122)), (7, (0, v124))]) rfl ?_
      exact ih _ _ _ _ _ _ hP111 h
theorem h_X63_divide_l143_ok {G : aw_G} {M0 : aw_M} {D' : ga_D} {Q : Option aw_V → aw_M → Prop} {r : Int} (hq : Q (some (0, r)) (hM D')) {k183 : Int → Int → Int → ga_D → ga_S} (hk183 : ∀ (x0 x5 x7 : Int) (D : ga_D), h_P D → k183 x0 x5 x7 D = some (r, D') → aw_HW G "WasteHouse$TicketChain$Ticket" cX63_divide (some (.boolean)) 9 1 false M0 Q aw_no D' (hn D') (hsl D') 183 [(0, (2, x0)), (5, (1, x5)), (7, (0, x7))] [] D) : ∀ {n : Nat} {x0 x5 x7 x8 : Int} {D : ga_D}, h_P D → h_X63_divide_l143 n x0 x5 x7 x8 D k183 = some (r, D') → aw_HW G "WasteHouse$TicketChain$Ticket" cX63_divide (some (.boolean)) 9 1 false M0 Q aw_no D' (hn D') (hsl D') 143 [(0, (2, x0)), (5, (1, x5)), (7, (0, x7)), (8, (0, x8))] [] D := by
  intro n
  induction n with
  | zero => intro x0 x5 x7 x8 D hP h; exact absurd (h : (none : ga_S) = some (r, D')) (by intro h; cases h)
  | succ n ih =>
    intro x0 x5 x7 x8 D hP h
    have ih : ∀ (x0 x5 x7 x8 : Int) (D : ga_D), h_P D → h_X63_divide_l143 n x0 x5 x7 x8 D k183 = some (r, D') → aw_HW G "WasteHouse$TicketChain$Ticket" cX63_divide (some (.boolean)) 9 1 false M0 Q aw_no D' (hn D') (hsl D') 143 [(0, (2, x0)), (5, (1, x5)), (7, (0, x7)), (8, (0, x8))] [] D := fun x0 x5 x7 x8 D hP h => ih hP h
    replace h : (if 8 ≤ x8 then (k183 x0 x5 x7 D) else (ga_ck (hk D x0 = (58, 0)) (ga_ck ((hk D (D x0 4)).1 = 1001) (ga_ck (0 ≤ x8 ∧ x8 < (hk D (D x0 4)).2) (ga_ck (0 ≤ x7 ∧ x7 < (hk D (D x0 4)).2) (if D (D x0 4) x8 ≤ D (D x0 4) x7 then (ga_let (aw_w32 (x8 + 1)) (fun v177 => h_X63_divide_l143 n x0 x5 x7 v177 D k183)) else (ga_let (aw_w32 (x8 + 1)) (fun v177 => h_X63_divide_l143 n x0 x5 x8 v177 D k183))))))) : ga_S) = some (r, D') := h
    refine hw_1 (fun k => x_iload dX63_divide_143 rfl k) ?_
    refine hw_1 (fun k => x_bipush dX63_divide_145 (by decide) k) ?_
    by_cases c147 : 8 ≤ x8
    · rw [if_pos c147] at h
      refine hw_1 (fun k => x_icmp_ge (tgt := 183) dX63_divide_147 (by decide) (fun _ => k) (fun z => absurd c147 z)) ?_
      refine hw_locs [0, 1, 2] (ls' := [(0, (2, x0)), (5, (1, x5)), (7, (0, x7))]) rfl ?_
      exact hk183 _ _ _ _ hP h
    · rw [if_neg c147] at h
      refine hw_1 (fun k => x_icmp_ge (tgt := 183) dX63_divide_147 (by decide) (fun z => absurd z c147) (fun _ => k)) ?_
      refine hw_1 (fun k => x_aload_n dX63_divide_150 rfl k) ?_
      replace h := ga_ck_some h; obtain ⟨hc151_0, h⟩ := h
      refine hw_1 (fun k => x_getf (v := D x0 4) dX63_divide_151 fl_X63_21 hc151_0 rfl k) ?_
      refine hw_1 (fun k => x_iload dX63_divide_154 rfl k) ?_
      replace h := ga_ck_some h; obtain ⟨hc156_1, h⟩ := h
      replace h := ga_ck_some h; obtain ⟨hc156_2, h⟩ := h
      refine hw_1 (fun k => x_lald (v := D (D x0 4) x8) dX63_divide_156 (hk_p hc156_1) hc156_2.1 hc156_2.2 rfl k) ?_
      refine hw_1 (fun k => x_aload_n dX63_divide_157 rfl k) ?_
      refine hw_1 (fun k => x_getf (v := D x0 4) dX63_divide_158 fl_X63_21 hc151_0 rfl k) ?_
      refine hw_1 (fun k => x_iload dX63_divide_161 rfl k) ?_
      replace h := ga_ck_some h; obtain ⟨hc163_3, h⟩ := h
      refine hw_1 (fun k => x_lald (v := D (D x0 4) x7) dX63_divide_163 (hk_p hc156_1) hc163_3.1 hc163_3.2 rfl k) ?_
      refine hw_1 (fun k => x_lcmp dX63_divide_164 rfl k) ?_
      by_cases c165 : D (D x0 4) x8 ≤ D (D x0 4) x7
      · rw [if_pos c165] at h
        refine hw_1 (fun k => x_if_le (tgt := 173) dX63_divide_165 (by decide) (fun _ => k) (fun z => absurd (cmi_le.mpr c165) z)) ?_
        refine hw_1 (fun k => x_iload dX63_divide_173 rfl k) ?_
        refine hw_1 (fun k => x_istore (ls' := [(7, (0, x7)), (0, (2, x0)), (5, (1, x5)), (8, (0, x8))]) dX63_divide_175 (by decide) rfl k) ?_
        replace h := ga_let_some h; obtain ⟨v177, ev177, h⟩ := h
        refine hw_1 (fun k => x_iinc (ls' := [(8, (0, v177)), (7, (0, x7)), (0, (2, x0)), (5, (1, x5))]) dX63_divide_177 rfl ev177.symm (by decide) rfl k) ?_
        refine hw_1 (fun k => x_goto (tgt := 143) dX63_divide_180 (by decide) k) ?_
        refine hw_locs [2, 3, 1, 0] (ls' := [(0, (2, x0)), (5, (1, x5)), (7, (0, x7)), (8, (0, v177))]) rfl ?_
        exact ih _ _ _ _ _ hP h
      · rw [if_neg c165] at h
        refine hw_1 (fun k => x_if_le (tgt := 173) dX63_divide_165 (by decide) (fun z => absurd (cmi_le.mp z) c165) (fun _ => k)) ?_
        refine hw_1 (fun k => x_iload dX63_divide_168 rfl k) ?_
        refine hw_1 (fun k => x_goto (tgt := 175) dX63_divide_170 (by decide) k) ?_
        refine hw_1 (fun k => x_istore (ls' := [(7, (0, x8)), (0, (2, x0)), (5, (1, x5)), (8, (0, x8))]) dX63_divide_175 (by decide) rfl k) ?_
        replace h := ga_let_some h; obtain ⟨v177, ev177, h⟩ := h
        refine hw_1 (fun k => x_iinc (ls' := [(8, (0, v177)), (7, (0, x8)), (0, (2, x0)), (5, (1, x5))]) dX63_divide_177 rfl ev177.symm (by decide) rfl k) ?_
        refine hw_1 (fun k => x_goto (tgt := 143) dX63_divide_180 (by decide) k) ?_
        refine hw_locs [2, 3, 1, 0] (ls' := [(0, (2, x0)), (5, (1, x5)), (7, (0, x8)), (8, (0, v177))]) rfl ?_
        exact ih _ _ _ _ _ hP h
theorem h_X63_divide_l130_ok {G : aw_G} {M0 : aw_M} {D' : ga_D} {Q : Option aw_V → aw_M → Prop} {r : Int} (hq : Q (some (0, r)) (hM D')) {k211 : ga_D → ga_S} (hk211 : ∀ (D : ga_D), h_P D → k211 D = some (r, D') → aw_HW G "WasteHouse$TicketChain$Ticket" cX63_divide (some (.boolean)) 9 1 false M0 Q aw_no D' (hn D') (hsl D') 211 [] [] D) : ∀ {n : Nat} {x0 x5 : Int} {D : ga_D}, h_P D → h_X63_divide_l130 n x0 x5 D k211 = some (r, D') → aw_HW G "WasteHouse$TicketChain$Ticket" cX63_divide (some (.boolean)) 9 1 false M0 Q aw_no D' (hn D') (hsl D') 130 [(0, (2, x0)), (5, (1, x5))] [] D := by
  intro n
  induction n with
  | zero => intro x0 x5 D hP h; exact absurd (h : (none : ga_S) = some (r, D')) (by intro h; cases h)
  | succ n ih =>
    intro x0 x5 D hP h
    have ih : ∀ (x0 x5 : Int) (D : ga_D), h_P D → h_X63_divide_l130 n x0 x5 D k211 = some (r, D') → aw_HW G "WasteHouse$TicketChain$Ticket" cX63_divide (some (.boolean)) 9 1 false M0 Q aw_no D' (hn D') (hsl D') 130 [(0, (2, x0)), (5, (1, x5))] [] D := fun x0 x5 D hP h => ih hP h
    replace h : (if x5 ≤ 0 then (k211 D) else (h_X63_divide_l143 aw_fu x0 x5 0 1 D (fun x0 x5 x7 D183 => ga_ck (hk D183 x0 = (58, 0)) (ga_ck ((hk D183 (D183 x0 3)).1 = 1001) (ga_ck (0 ≤ x7 ∧ x7 < (hk D183 (D183 x0 3)).2) (ga_ck (4096 ≤ D183 x0 3) (ga_ck (0 ≤ x7 ∧ x7 < (hk D183 (D183 x0 3)).2) (ga_let (ga_set D183 (D183 x0 3) x7 (aw_w64 ((D183 (D183 x0 3) x7) + 1))) (fun D193 => ga_ck ((hk D193 (D193 x0 4)).1 = 1001) (ga_ck (4096 ≤ D193 x0 4) (ga_ck (0 ≤ x7 ∧ x7 < (hk D193 (D193 x0 4)).2) (ga_let (ga_set D193 (D193 x0 4) x7 0) (fun D201 => ga_let (aw_w64 (x5 - 1)) (fun v206 => h_X63_divide_l130 n x0 v206 D201 k211))))))))))))) : ga_S) = some (r, D') := h
    refine hw_1 (fun k => x_lload dX63_divide_130 rfl k) ?_
    refine hw_1 (fun k => x_lconst (v := 0) dX63_divide_132 rfl k) ?_
    refine hw_1 (fun k => x_lcmp dX63_divide_133 rfl k) ?_
    by_cases c134 : x5 ≤ 0
    · rw [if_pos c134] at h
      refine hw_1 (fun k => x_if_le (tgt := 211) dX63_divide_134 (by decide) (fun _ => k) (fun z => absurd (cmi_le.mpr c134) z)) ?_
      refine hw_locs [] (ls' := []) rfl ?_
      exact hk211 _ hP h
    · rw [if_neg c134] at h
      refine hw_1 (fun k => x_if_le (tgt := 211) dX63_divide_134 (by decide) (fun z => absurd (cmi_le.mp z) c134) (fun _ => k)) ?_
      refine hw_1 (fun k => x_iconst dX63_divide_137 (by decide) k) ?_
      refine hw_1 (fun k => x_istore (ls' := [(7, (0, 0)), (0, (2, x0)), (5, (1, x5))]) dX63_divide_138 (by decide) rfl k) ?_
      refine hw_1 (fun k => x_iconst dX63_divide_140 (by decide) k) ?_
      refine hw_1 (fun k => x_istore (ls' := [(8, (0, 1)), (7, (0, 0)), (0, (2, x0)), (5, (1, x5))]) dX63_divide_141 (by decide) rfl k) ?_
      refine hw_locs [2, 3, 1, 0] (ls' := [(0, (2, x0)), (5, (1, x5)), (7, (0, 0)), (8, (0, 1))]) rfl ?_
      refine h_X63_divide_l143_ok hq (fun x0 x5 x7 D183 hP h => ?_) hP h
      · refine hw_1 (fun k => x_aload_n dX63_divide_183 rfl k) ?_
        replace h := ga_ck_some h; obtain ⟨hc184_0, h⟩ := h
        refine hw_1 (fun k => x_getf (v := D183 x0 3) dX63_divide_184 fl_X63_18 hc184_0 rfl k) ?_
        refine hw_1 (fun k => x_iload dX63_divide_187 rfl k) ?_
        refine hw_1 (fun k => x_dup2 dX63_divide_189 rfl rfl k) ?_
        replace h := ga_ck_some h; obtain ⟨hc190_1, h⟩ := h
        replace h := ga_ck_some h; obtain ⟨hc190_2, h⟩ := h
        refine hw_1 (fun k => x_lald (v := D183 (D183 x0 3) x7) dX63_divide_190 (hk_p hc190_1) hc190_2.1 hc190_2.2 rfl k) ?_
        refine hw_1 (fun k => x_lconst (v := 1) dX63_divide_191 rfl k) ?_
        refine hw_1 (fun k => x_ladd dX63_divide_192 rfl k) ?_
        replace h := ga_ck_some h; obtain ⟨hc193_3, h⟩ := h
        replace h := ga_ck_some h; obtain ⟨hc193_4, h⟩ := h
        replace h := ga_let_some h; obtain ⟨D193, eD193, h⟩ := h
        refine hw_set eD193 (Int.le_trans (by decide) hc193_3) hc193_4.1 (fun k => x_last dX63_divide_193 (hk_p hc190_1) hc193_3 hc193_4.1 hc193_4.2 k) ?_
        have hP193 : h_P D193 := hP.set eD193 hc193_3 hc193_4.1 (hPn (hk_p hc190_1) rfl)
        have hE193 : h_E D183 D193 := h_E_set eD193 hc193_4.1
        refine hw_1 (fun k => x_aload_n dX63_divide_194 rfl k) ?_
        refine hw_1 (fun k => x_getf (v := D193 x0 4) dX63_divide_195 fl_X63_21 (h_kx hE193 hc184_0 (by decide)) rfl k) ?_
        refine hw_1 (fun k => x_iload dX63_divide_198 rfl k) ?_
        refine hw_1 (fun k => x_lconst (v := 0) dX63_divide_200 rfl k) ?_
        replace h := ga_ck_some h; obtain ⟨hc201_5, h⟩ := h
        replace h := ga_ck_some h; obtain ⟨hc201_6, h⟩ := h
        replace h := ga_ck_some h; obtain ⟨hc201_7, h⟩ := h
        replace h := ga_let_some h; obtain ⟨D201, eD201, h⟩ := h
        refine hw_set eD201 (Int.le_trans (by decide) hc201_6) hc201_7.1 (fun k => x_last dX63_divide_201 (hk_p hc201_5) hc201_6 hc201_7.1 hc201_7.2 k) ?_
        have hP201 : h_P D201 := hP193.set eD201 hc201_6 hc201_7.1 (hPn (hk_p hc201_5) rfl)
        have hE201 : h_E D193 D201 := h_E_set eD201 hc201_7.1
        refine hw_1 (fun k => x_lload dX63_divide_202 rfl k) ?_
        refine hw_1 (fun k => x_lconst (v := 1) dX63_divide_204 rfl k) ?_
        refine hw_1 (fun k => x_lsub dX63_divide_205 rfl k) ?_
        replace h := ga_let_some h; obtain ⟨v206, ev206, h⟩ := h
        refine hw_nm ev206 ?_
        refine hw_1 (fun k => x_lstore (ls' := [(5, (1, v206)), (0, (2, x0)), (7, (0, x7))]) dX63_divide_206 (by decide) rfl k) ?_
        refine hw_1 (fun k => x_goto (tgt := 130) dX63_divide_208 (by decide) k) ?_
        refine hw_locs [1, 0] (ls' := [(0, (2, x0)), (5, (1, v206))]) rfl ?_
        exact ih _ _ _ hP201 h
theorem h_X63_divide_ok {G : aw_G} {D D' : ga_D} {r : Int} {x0 : Int} (hP : h_P D) (h : h_X63_divide x0 D = some (r, D')) : aw_HR yX63_divide cX63_divide 9 (some (.boolean)) 1 G [(2, x0)] D (some (0, r)) D' := by
  unfold h_X63_divide at h
  refine hw_body (own := "WasteHouse$TicketChain$Ticket") (ini := false) (ls := [(0, (2, x0))]) rfl rfl (fun h => by cases h) (Nat.le_of_ble_eq_true rfl) rfl fun Q hq => ?_
  refine hw_1 (fun k => x_lconst (v := 0) dX63_divide_0 rfl k) ?_
  refine hw_1 (fun k => x_lstore_n (ls' := [(1, (1, 0)), (0, (2, x0))]) dX63_divide_1 (by decide) rfl k) ?_
  refine hw_1 (fun k => x_aload_n dX63_divide_2 rfl k) ?_
  replace h := ga_ck_some h; obtain ⟨hc3_0, h⟩ := h
  refine hw_1 (fun k => x_getf (v := D x0 2) dX63_divide_3 fl_X63_15 hc3_0 rfl k) ?_
  replace h := ga_let_some h; obtain ⟨v6, ev6, h⟩ := h
  refine hw_nm ev6 ?_
  refine hw_1 (fun k => x_astore_n (ls' := [(3, (2, v6)), (1, (1, 0)), (0, (2, x0))]) dX63_divide_6 (by decide) rfl k) ?_
  refine hw_1 (fun k => x_aload_n dX63_divide_7 rfl k) ?_
  replace h := ga_ck_some h; obtain ⟨hc8_1, h⟩ := h
  refine hw_1 (fun k => x_alen (t := 1) dX63_divide_8 (hk_p hc8_1) rfl k) ?_
  replace h := ga_let_some h; obtain ⟨v9, ev9, h⟩ := h
  refine hw_nm ev9 ?_
  refine hw_1 (fun k => x_istore (ls' := [(4, (0, v9)), (3, (2, v6)), (1, (1, 0)), (0, (2, x0))]) dX63_divide_9 (by decide) rfl k) ?_
  refine hw_1 (fun k => x_iconst dX63_divide_11 (by decide) k) ?_
  refine hw_1 (fun k => x_istore (ls' := [(5, (0, 0)), (4, (0, v9)), (3, (2, v6)), (1, (1, 0)), (0, (2, x0))]) dX63_divide_12 (by decide) rfl k) ?_
  refine hw_locs [4, 3, 2, 1, 0] (ls' := [(0, (2, x0)), (1, (1, 0)), (3, (2, v6)), (4, (0, v9)), (5, (0, 0))]) rfl ?_
  refine h_X63_divide_l14_ok hq (fun x0 x1 D38 hP h => ?_) hP h
  · refine hw_1 (fun k => x_lload_n dX63_divide_38 rfl k) ?_
    refine hw_1 (fun k => x_lconst (v := 0) dX63_divide_39 rfl k) ?_
    refine hw_1 (fun k => x_lcmp dX63_divide_40 rfl k) ?_
    by_cases c41 : x1 ≠ 0
    · rw [if_pos c41] at h
      refine hw_1 (fun k => x_if_ne (tgt := 46) dX63_divide_41 (by decide) (fun _ => k) (fun z => absurd (cmi_ne.mpr c41) z)) ?_
      refine hw_1 (fun k => x_aload_n dX63_divide_46 rfl k) ?_
      replace h := ga_ck_some h; obtain ⟨hc47_0, h⟩ := h
      replace h := ga_bind_some h; obtain ⟨r47, D47, g47, h⟩ := h
      have hR47 := (h_X63_isVoid_ok (G := G) hP g47)
      obtain ⟨hP47, hE47, -⟩ := id hR47
      refine hw_call (rest := []) hR47 (fun hc hk9 => x_callV (as := []) (rest := []) dX63_divide_47 hc (lw_V q5624 q5625 q5626 q504 q5627) hc47_0 rfl rfl (show _ ∧ _ ∧ _ ∧ _ = some 0 from by decide +kernel) (by decide) (by decide) rfl (Nat.le_of_ble_eq_true rfl) hk9 aw_nox) ?_
      by_cases c50 : r47 = 0
      · rw [if_pos c50] at h
        refine hw_1 (fun k => x_if_eq (tgt := 57) dX63_divide_50 (by decide) (fun _ => k) (fun z => absurd c50 z)) ?_
        refine hw_1 (fun k => x_aload_n dX63_divide_57 rfl k) ?_
        refine hw_1 (fun k => x_iconst dX63_divide_58 (by decide) k) ?_
        replace h := ga_bind_some h; obtain ⟨r59, D59, g59, h⟩ := h
        have hR59 := (h_X63_get_ok (G := G) hP47 g59)
        obtain ⟨hP59, hE59, -⟩ := id hR59
        refine hw_call (rest := []) hR59 (fun hc hk9 => x_callV (as := [(0, 5)]) (rest := []) dX63_divide_59 hc (lw_V q5628 q5168 q5169 q504 q5170) (h_kx hE47 hc47_0 (by decide)) rfl rfl (show _ ∧ _ ∧ _ ∧ _ = some 1 from by decide +kernel) (by decide) (by decide) rfl (Nat.le_of_ble_eq_true rfl) hk9 aw_nox) ?_
        refine hw_1 (fun k => x_lstore_n (ls' := [(3, (1, r59)), (0, (2, x0)), (1, (1, x1))]) dX63_divide_62 (by decide) rfl k) ?_
        refine hw_1 (fun k => x_lload_n dX63_divide_63 rfl k) ?_
        refine hw_1 (fun k => x_lstore (ls' := [(5, (1, r59)), (3, (1, r59)), (0, (2, x0)), (1, (1, x1))]) dX63_divide_64 (by decide) rfl k) ?_
        refine hw_1 (fun k => x_iconst dX63_divide_66 (by decide) k) ?_
        refine hw_1 (fun k => x_istore (ls' := [(7, (0, 0)), (5, (1, r59)), (3, (1, r59)), (0, (2, x0)), (1, (1, x1))]) dX63_divide_67 (by decide) rfl k) ?_
        refine hw_locs [3, 4, 2, 1, 0] (ls' := [(0, (2, x0)), (1, (1, x1)), (3, (1, r59)), (5, (1, r59)), (7, (0, 0))]) rfl ?_
        refine h_X63_divide_l69_ok hq (fun x0 x5 D130 hP h => ?_) hP59 h
        · refine h_X63_divide_l130_ok hq (fun D211 hP h => ?_) hP h
          · refine hw_1 (fun k => x_iconst dX63_divide_211 (by decide) k) ?_
            obtain ⟨rfl, rfl⟩ := ga_end h
            exact hw_ret hP (x_iret dX63_divide_212 rfl rfl (show (0 : Int) ≤ 1 ∧ (1 : Int) < 2 from by decide) hq)
      · rw [if_neg c50] at h
        refine hw_1 (fun k => x_if_eq (tgt := 57) dX63_divide_50 (by decide) (fun z => absurd z c50) (fun _ => k)) ?_
        refine hw_1 (fun k => x_lconst (v := 0) dX63_divide_53 rfl k) ?_
        refine hw_1 (fun k => x_goto (tgt := 62) dX63_divide_54 (by decide) k) ?_
        refine hw_1 (fun k => x_lstore_n (ls' := [(3, (1, 0)), (0, (2, x0)), (1, (1, x1))]) dX63_divide_62 (by decide) rfl k) ?_
        refine hw_1 (fun k => x_lload_n dX63_divide_63 rfl k) ?_
        refine hw_1 (fun k => x_lstore (ls' := [(5, (1, 0)), (3, (1, 0)), (0, (2, x0)), (1, (1, x1))]) dX63_divide_64 (by decide) rfl k) ?_
        refine hw_1 (fun k => x_iconst dX63_divide_66 (by decide) k) ?_
        refine hw_1 (fun k => x_istore (ls' := [(7, (0, 0)), (5, (1, 0)), (3, (1, 0)), (0, (2, x0)), (1, (1, x1))]) dX63_divide_67 (by decide) rfl k) ?_
        refine hw_locs [3, 4, 2, 1, 0] (ls' := [(0, (2, x0)), (1, (1, x1)), (3, (1, 0)), (5, (1, 0)), (7, (0, 0))]) rfl ?_
        refine h_X63_divide_l69_ok hq (fun x0 x5 D130 hP h => ?_) hP47 h
        · refine h_X63_divide_l130_ok hq (fun D211 hP h => ?_) hP h
          · refine hw_1 (fun k => x_iconst dX63_divide_211 (by decide) k) ?_
            obtain ⟨rfl, rfl⟩ := ga_end h
            exact hw_ret hP (x_iret dX63_divide_212 rfl rfl (show (0 : Int) ≤ 1 ∧ (1 : Int) < 2 from by decide) hq)
    · rw [if_neg c41] at h
      refine hw_1 (fun k => x_if_ne (tgt := 46) dX63_divide_41 (by decide) (fun z => absurd (cmi_ne.mp z) c41) (fun _ => k)) ?_
      refine hw_1 (fun k => x_iconst dX63_divide_44 (by decide) k) ?_
      obtain ⟨rfl, rfl⟩ := ga_end h
      exact hw_ret hP (x_iret dX63_divide_45 rfl rfl (show (0 : Int) ≤ 0 ∧ (0 : Int) < 2 from by decide) hq)
theorem h_X63_share_ok {G : aw_G} {D D' : ga_D} {r : Int} {x0 x1 : Int} (hP : h_P D) (h : h_X63_share x0 x1 D = some (r, D')) : aw_HR yX63_share cX63_share 2 (some (.long)) 0 G [(2, x0), (0, x1)] D (some (1, r)) D' := by
  unfold h_X63_share at h
  refine hw_body (own := "WasteHouse$TicketChain$Ticket") (ini := false) (ls := [(0, (2, x0)), (1, (0, x1))]) rfl rfl (fun h => by cases h) (Nat.le_of_ble_eq_true rfl) rfl fun Q hq => ?_
  refine hw_1 (fun k => x_aload_n dX63_share_0 rfl k) ?_
  replace h := ga_ck_some h; obtain ⟨hc1_0, h⟩ := h
  refine hw_1 (fun k => x_getf (v := D x0 3) dX63_share_1 fl_X63_18 hc1_0 rfl k) ?_
  refine hw_1 (fun k => x_iload_n dX63_share_4 rfl k) ?_
  replace h := ga_ck_some h; obtain ⟨hc5_1, h⟩ := h
  replace h := ga_ck_some h; obtain ⟨hc5_2, h⟩ := h
  refine hw_1 (fun k => x_lald (v := D (D x0 3) x1) dX63_share_5 (hk_p hc5_1) hc5_2.1 hc5_2.2 rfl k) ?_
  obtain ⟨rfl, rfl⟩ := ga_end h
  exact hw_ret hP (x_lret dX63_share_6 rfl hq)
theorem h_X2_share_ok {G : aw_G} {D D' : ga_D} {r : Int} {x1 x2 : Int} (hP : h_P D) (h : h_X2_share x1 x2 D = some (r, D')) : aw_HR yX2_share cX2_share 3 (some (.long)) 3 G [(2, 4097), (0, x1), (0, x2)] D (some (1, r)) D' := by
  unfold h_X2_share at h
  refine hw_body (own := "WasteHouse$TicketChain") (ini := false) (ls := [(0, (2, 4097)), (1, (0, x1)), (2, (0, x2))]) rfl rfl (fun h => by cases h) (Nat.le_of_ble_eq_true rfl) rfl fun Q hq => ?_
  refine hw_1 (fun k => x_aload_n dX2_share_0 rfl k) ?_
  refine hw_1 (fun k => x_iload_n dX2_share_1 rfl k) ?_
  replace h := ga_bind_some h; obtain ⟨r2, D2, g2, h⟩ := h
  have hR2 := (h_X2_isTicket_ok (G := G) hP g2)
  obtain ⟨hP2, hE2, -⟩ := id hR2
  refine hw_call (rest := []) hR2 (fun hc hk9 => x_callV (as := [(0, x1)]) (rest := []) dX2_share_2 hc (lw_V q5615 q5617 qs118 q394 q5618) (hkS (D := D) (show ga_K 4097 = (1, 0) from by decide +kernel) (by decide)) rfl rfl (show _ ∧ _ ∧ _ ∧ _ = some 1 from by decide +kernel) (by decide) (by decide) rfl (Nat.le_of_ble_eq_true rfl) hk9 aw_nox) ?_
  by_cases c5 : r2 = 0
  · rw [if_pos c5] at h
    refine hw_1 (fun k => x_if_eq (tgt := 35) dX2_share_5 (by decide) (fun _ => k) (fun z => absurd c5 z)) ?_
    refine hw_1 (fun k => x_ldc2 (z := (-1)) dX2_share_35 q5096 (by decide) k) ?_
    obtain ⟨rfl, rfl⟩ := ga_end h
    exact hw_ret hP2 (x_lret dX2_share_38 rfl hq)
  · rw [if_neg c5] at h
    refine hw_1 (fun k => x_if_eq (tgt := 35) dX2_share_5 (by decide) (fun z => absurd z c5) (fun _ => k)) ?_
    refine hw_1 (fun k => x_iload_n dX2_share_8 rfl k) ?_
    by_cases c9 : x2 < 0
    · rw [if_pos c9] at h
      refine hw_1 (fun k => x_if_lt (tgt := 35) dX2_share_9 (by decide) (fun _ => k) (fun z => absurd c9 z)) ?_
      refine hw_1 (fun k => x_ldc2 (z := (-1)) dX2_share_35 q5096 (by decide) k) ?_
      obtain ⟨rfl, rfl⟩ := ga_end h
      exact hw_ret hP2 (x_lret dX2_share_38 rfl hq)
    · rw [if_neg c9] at h
      refine hw_1 (fun k => x_if_lt (tgt := 35) dX2_share_9 (by decide) (fun z => absurd z c9) (fun _ => k)) ?_
      refine hw_1 (fun k => x_iload_n dX2_share_12 rfl k) ?_
      refine hw_1 (fun k => x_bipush dX2_share_13 (by decide) k) ?_
      by_cases c15 : 8 ≤ x2
      · rw [if_pos c15] at h
        refine hw_1 (fun k => x_icmp_ge (tgt := 35) dX2_share_15 (by decide) (fun _ => k) (fun z => absurd c15 z)) ?_
        refine hw_1 (fun k => x_ldc2 (z := (-1)) dX2_share_35 q5096 (by decide) k) ?_
        obtain ⟨rfl, rfl⟩ := ga_end h
        exact hw_ret hP2 (x_lret dX2_share_38 rfl hq)
      · rw [if_neg c15] at h
        refine hw_1 (fun k => x_icmp_ge (tgt := 35) dX2_share_15 (by decide) (fun z => absurd z c15) (fun _ => k)) ?_
        refine hw_1 (fun k => x_aload_n dX2_share_18 rfl k) ?_
        refine hw_1 (fun k => x_getf (v := 4111) dX2_share_19 fl_X2_19 (hkS (D := D2) (show ga_K 4097 = (1, 0) from by decide +kernel) (by decide)) (hP2.1 4097 1 4111 (by decide +kernel)) k) ?_
        refine hw_1 (fun k => x_iload_n dX2_share_22 rfl k) ?_
        replace h := ga_bind_some h; obtain ⟨r23, D23, g23, h⟩ := h
        have hR23 := (h_J2_get_ok (G := G) hP2 g23)
        obtain ⟨hP23, hE23, -⟩ := id hR23
        refine hw_call (rest := []) hR23 (fun hc hk9 => x_callV (as := [(0, x1)]) (rest := []) dX2_share_23 hc (lw_V q5619 q3183 q3184 q401 q3185) (hkS (D := D2) (show ga_K 4111 = (60, 0) from by decide +kernel) (by decide)) rfl rfl (show _ ∧ _ ∧ _ ∧ _ = some 1 from by decide +kernel) (by decide) (by decide) rfl (Nat.le_of_ble_eq_true rfl) hk9 aw_nox) ?_
        replace h := ga_ck_some h; obtain ⟨hc26_0, h⟩ := h
        refine hw_1 (fun k => x_castL (L := [58]) dX2_share_26 q5122 sbl_WasteHouse_TicketChain_Ticket (aw_or1 hc26_0) k) ?_
        replace h := ga_ck_some h; obtain ⟨hc29_1, h⟩ := h
        replace h := ga_bind_some h; obtain ⟨r29, D29, g29, h⟩ := h
        have hR29 := (h_X63_divide_ok (G := G) hP23 g29)
        obtain ⟨hP29, hE29, -⟩ := id hR29
        refine hw_call (rest := []) hR29 (fun hc hk9 => x_callV (as := []) (rest := []) dX2_share_29 hc (lw_V q5620 q5621 q5622 q504 q5623) hc29_1 rfl rfl (show _ ∧ _ ∧ _ ∧ _ = some 0 from by decide +kernel) (by decide) (by decide) rfl (Nat.le_of_ble_eq_true rfl) hk9 aw_nox) ?_
        by_cases c32 : r29 ≠ 0
        · rw [if_pos c32] at h
          refine hw_1 (fun k => x_if_ne (tgt := 39) dX2_share_32 (by decide) (fun _ => k) (fun z => absurd c32 z)) ?_
          refine hw_1 (fun k => x_aload_n dX2_share_39 rfl k) ?_
          refine hw_1 (fun k => x_getf (v := 4111) dX2_share_40 fl_X2_19 (hkS (D := D29) (show ga_K 4097 = (1, 0) from by decide +kernel) (by decide)) (hP29.1 4097 1 4111 (by decide +kernel)) k) ?_
          refine hw_1 (fun k => x_iload_n dX2_share_43 rfl k) ?_
          replace h := ga_bind_some h; obtain ⟨r44, D44, g44, h⟩ := h
          have hR44 := (h_J2_get_ok (G := G) hP29 g44)
          obtain ⟨hP44, hE44, -⟩ := id hR44
          refine hw_call (rest := []) hR44 (fun hc hk9 => x_callV (as := [(0, x1)]) (rest := []) dX2_share_44 hc (lw_V q5619 q3183 q3184 q401 q3185) (hkS (D := D29) (show ga_K 4111 = (60, 0) from by decide +kernel) (by decide)) rfl rfl (show _ ∧ _ ∧ _ ∧ _ = some 1 from by decide +kernel) (by decide) (by decide) rfl (Nat.le_of_ble_eq_true rfl) hk9 aw_nox) ?_
          replace h := ga_ck_some h; obtain ⟨hc47_0, h⟩ := h
          refine hw_1 (fun k => x_castL (L := [58]) dX2_share_47 q5122 sbl_WasteHouse_TicketChain_Ticket (aw_or1 hc47_0) k) ?_
          refine hw_1 (fun k => x_iload_n dX2_share_50 rfl k) ?_
          replace h := ga_ck_some h; obtain ⟨hc51_1, h⟩ := h
          replace h := ga_bind_some h; obtain ⟨r51, D51, g51, h⟩ := h
          have hR51 := (h_X63_share_ok (G := G) hP44 g51)
          obtain ⟨hP51, hE51, -⟩ := id hR51
          refine hw_call (rest := []) hR51 (fun hc hk9 => x_callV (as := [(0, x2)]) (rest := []) dX2_share_51 hc (lw_V q5629 q5630 q5631 q504 q5632) hc51_1 rfl rfl (show _ ∧ _ ∧ _ ∧ _ = some 1 from by decide +kernel) (by decide) (by decide) rfl (Nat.le_of_ble_eq_true rfl) hk9 aw_nox) ?_
          obtain ⟨rfl, rfl⟩ := ga_end h
          exact hw_ret hP51 (x_lret dX2_share_54 rfl hq)
        · rw [if_neg c32] at h
          refine hw_1 (fun k => x_if_ne (tgt := 39) dX2_share_32 (by decide) (fun z => absurd z c32) (fun _ => k)) ?_
          refine hw_1 (fun k => x_ldc2 (z := (-1)) dX2_share_35 q5096 (by decide) k) ?_
          obtain ⟨rfl, rfl⟩ := ga_end h
          exact hw_ret hP29 (x_lret dX2_share_38 rfl hq)
theorem h_X3_count_ok {G : aw_G} {D D' : ga_D} {r : Int} (hP : h_P D) (h : h_X3_count D = some (r, D')) : aw_HR yX3_count cX3_count 1 (some (.int)) 1 G [(2, 4098)] D (some (0, r)) D' := by
  unfold h_X3_count at h
  refine hw_body (own := "WasteHouse$TicketChain$Chain") (ini := false) (ls := [(0, (2, 4098))]) rfl rfl (fun h => by cases h) (Nat.le_of_ble_eq_true rfl) rfl fun Q hq => ?_
  refine hw_1 (fun k => x_aload_n dX3_count_0 rfl k) ?_
  refine hw_1 (fun k => x_getf (v := 4107) dX3_count_1 fl_X3_33 (hkS (D := D) (show ga_K 4098 = (2, 0) from by decide +kernel) (by decide)) (hP.1 4098 2 4107 (by decide +kernel)) k) ?_
  replace h := ga_bind_some h; obtain ⟨r4, D4, g4, h⟩ := h
  have hR4 := (h_J2_size_ok (G := G) hP g4)
  obtain ⟨hP4, hE4, -⟩ := id hR4
  refine hw_call (rest := []) hR4 (fun hc hk9 => x_callV (as := []) (rest := []) dX3_count_4 hc (lw_V q5118 q3530 q3531 q401 q3532) (hkS (D := D) (show ga_K 4107 = (60, 0) from by decide +kernel) (by decide)) rfl rfl (show _ ∧ _ ∧ _ ∧ _ = some 0 from by decide +kernel) (by decide) (by decide) rfl (Nat.le_of_ble_eq_true rfl) hk9 aw_nox) ?_
  obtain ⟨rfl, rfl⟩ := ga_end h
  exact hw_ret hP4 (x_iret dX3_count_7 rfl rfl trivial hq)
theorem h_X3_isSound_l27_ok {G : aw_G} {M0 : aw_M} {D' : ga_D} {Q : Option aw_V → aw_M → Prop} {r : Int} (hq : Q (some (0, r)) (hM D')) {k67 : Int → ga_D → ga_S} (hk67 : ∀ (x3 : Int) (D : ga_D), h_P D → k67 x3 D = some (r, D') → aw_HW G "WasteHouse$TicketChain$Chain" cX3_isSound (some (.boolean)) 5 5 false M0 Q aw_no D' (hn D') (hsl D') 67 [(3, (0, x3))] [] D) : ∀ {n : Nat} {x2 x3 x4 : Int} {D : ga_D}, h_P D → h_X3_isSound_l27 n x2 x3 x4 D k67 = some (r, D') → aw_HW G "WasteHouse$TicketChain$Chain" cX3_isSound (some (.boolean)) 5 5 false M0 Q aw_no D' (hn D') (hsl D') 27 [(0, (2, 4098)), (2, (2, x2)), (3, (0, x3)), (4, (0, x4))] [] D := by
  intro n
  induction n with
  | zero => intro x2 x3 x4 D hP h; exact absurd (h : (none : ga_S) = some (r, D')) (by intro h; cases h)
  | succ n ih =>
    intro x2 x3 x4 D hP h
    have ih : ∀ (x2 x3 x4 : Int) (D : ga_D), h_P D → h_X3_isSound_l27 n x2 x3 x4 D k67 = some (r, D') → aw_HW G "WasteHouse$TicketChain$Chain" cX3_isSound (some (.boolean)) 5 5 false M0 Q aw_no D' (hn D') (hsl D') 27 [(0, (2, 4098)), (2, (2, x2)), (3, (0, x3)), (4, (0, x4))] [] D := fun x2 x3 x4 D hP h => ih hP h
    replace h : (if 32 ≤ x4 then (k67 x3 D) else (if x3 = 0 then (k67 x3 D) else (ga_ck ((hk D x2).1 = 1002) (ga_ck (0 ≤ aw_w32 (41 + x4) ∧ aw_w32 (41 + x4) < (hk D x2).2) (ga_ck (0 ≤ x4 ∧ x4 < 32) (if D x2 (aw_w32 (41 + x4)) ≠ D 4109 x4 then (ga_let (aw_w32 (x4 + 1)) (fun v61 => h_X3_isSound_l27 n x2 0 v61 D k67)) else (ga_let (aw_w32 (x4 + 1)) (fun v61 => h_X3_isSound_l27 n x2 1 v61 D k67))))))) : ga_S) = some (r, D') := h
    refine hw_1 (fun k => x_iload dX3_isSound_27 rfl k) ?_
    refine hw_1 (fun k => x_bipush dX3_isSound_29 (by decide) k) ?_
    by_cases c31 : 32 ≤ x4
    · rw [if_pos c31] at h
      refine hw_1 (fun k => x_icmp_ge (tgt := 67) dX3_isSound_31 (by decide) (fun _ => k) (fun z => absurd c31 z)) ?_
      refine hw_locs [2] (ls' := [(3, (0, x3))]) rfl ?_
      exact hk67 _ _ hP h
    · rw [if_neg c31] at h
      refine hw_1 (fun k => x_icmp_ge (tgt := 67) dX3_isSound_31 (by decide) (fun z => absurd z c31) (fun _ => k)) ?_
      refine hw_1 (fun k => x_iload_n dX3_isSound_34 rfl k) ?_
      by_cases c35 : x3 = 0
      · rw [if_pos c35] at h
        refine hw_1 (fun k => x_if_eq (tgt := 67) dX3_isSound_35 (by decide) (fun _ => k) (fun z => absurd c35 z)) ?_
        refine hw_locs [2] (ls' := [(3, (0, x3))]) rfl ?_
        exact hk67 _ _ hP h
      · rw [if_neg c35] at h
        refine hw_1 (fun k => x_if_eq (tgt := 67) dX3_isSound_35 (by decide) (fun z => absurd z c35) (fun _ => k)) ?_
        refine hw_1 (fun k => x_aload_n dX3_isSound_38 rfl k) ?_
        refine hw_1 (fun k => x_bipush dX3_isSound_39 (by decide) k) ?_
        refine hw_1 (fun k => x_iload dX3_isSound_41 rfl k) ?_
        refine hw_1 (fun k => x_iadd dX3_isSound_43 rfl k) ?_
        replace h := ga_ck_some h; obtain ⟨hc44_0, h⟩ := h
        replace h := ga_ck_some h; obtain ⟨hc44_1, h⟩ := h
        refine hw_1 (fun k => x_bald (v := D x2 (aw_w32 (41 + x4))) dX3_isSound_44 (hk_p hc44_0) hc44_1.1 hc44_1.2 rfl k) ?_
        refine hw_1 (fun k => x_aload_n dX3_isSound_45 rfl k) ?_
        refine hw_1 (fun k => x_getf (v := 4109) dX3_isSound_46 fl_X3_44 (hkS (D := D) (show ga_K 4098 = (2, 0) from by decide +kernel) (by decide)) (hP.1 4098 4 4109 (by decide +kernel)) k) ?_
        refine hw_1 (fun k => x_iload dX3_isSound_49 rfl k) ?_
        replace h := ga_ck_some h; obtain ⟨hc51_2, h⟩ := h
        refine hw_1 (fun k => x_bald (v := D 4109 x4) dX3_isSound_51 (hkS (D := D) (show ga_K 4109 = (1002, 32) from by decide +kernel) (by decide)) hc51_2.1 hc51_2.2 rfl k) ?_
        by_cases c52 : D x2 (aw_w32 (41 + x4)) ≠ D 4109 x4
        · rw [if_pos c52] at h
          refine hw_1 (fun k => x_icmp_ne (tgt := 59) dX3_isSound_52 (by decide) (fun _ => k) (fun z => absurd c52 z)) ?_
          refine hw_1 (fun k => x_iconst dX3_isSound_59 (by decide) k) ?_
          refine hw_1 (fun k => x_istore_n (ls' := [(3, (0, 0)), (0, (2, 4098)), (2, (2, x2)), (4, (0, x4))]) dX3_isSound_60 (by decide) rfl k) ?_
          replace h := ga_let_some h; obtain ⟨v61, ev61, h⟩ := h
          refine hw_1 (fun k => x_iinc (ls' := [(4, (0, v61)), (3, (0, 0)), (0, (2, 4098)), (2, (2, x2))]) dX3_isSound_61 rfl ev61.symm (by decide) rfl k) ?_
          refine hw_1 (fun k => x_goto (tgt := 27) dX3_isSound_64 (by decide) k) ?_
          refine hw_locs [2, 3, 1, 0] (ls' := [(0, (2, 4098)), (2, (2, x2)), (3, (0, 0)), (4, (0, v61))]) rfl ?_
          exact ih _ _ _ _ hP h
        · rw [if_neg c52] at h
          refine hw_1 (fun k => x_icmp_ne (tgt := 59) dX3_isSound_52 (by decide) (fun z => absurd z c52) (fun _ => k)) ?_
          refine hw_1 (fun k => x_iconst dX3_isSound_55 (by decide) k) ?_
          refine hw_1 (fun k => x_goto (tgt := 60) dX3_isSound_56 (by decide) k) ?_
          refine hw_1 (fun k => x_istore_n (ls' := [(3, (0, 1)), (0, (2, 4098)), (2, (2, x2)), (4, (0, x4))]) dX3_isSound_60 (by decide) rfl k) ?_
          replace h := ga_let_some h; obtain ⟨v61, ev61, h⟩ := h
          refine hw_1 (fun k => x_iinc (ls' := [(4, (0, v61)), (3, (0, 1)), (0, (2, 4098)), (2, (2, x2))]) dX3_isSound_61 rfl ev61.symm (by decide) rfl k) ?_
          refine hw_1 (fun k => x_goto (tgt := 27) dX3_isSound_64 (by decide) k) ?_
          refine hw_locs [2, 3, 1, 0] (ls' := [(0, (2, 4098)), (2, (2, x2)), (3, (0, 1)), (4, (0, v61))]) rfl ?_
          exact ih _ _ _ _ hP h
theorem h_X3_isSound_ok {G : aw_G} {D D' : ga_D} {r : Int} {x1 : Int} (hP : h_P D) (h : h_X3_isSound x1 D = some (r, D')) : aw_HR yX3_isSound cX3_isSound 5 (some (.boolean)) 5 G [(2, 4098), (0, x1)] D (some (0, r)) D' := by
  unfold h_X3_isSound at h
  refine hw_body (own := "WasteHouse$TicketChain$Chain") (ini := false) (ls := [(0, (2, 4098)), (1, (0, x1))]) rfl rfl (fun h => by cases h) (Nat.le_of_ble_eq_true rfl) rfl fun Q hq => ?_
  refine hw_1 (fun k => x_aload_n dX3_isSound_0 rfl k) ?_
  refine hw_1 (fun k => x_iload_n dX3_isSound_1 rfl k) ?_
  refine hw_1 (fun k => x_aload_n dX3_isSound_2 rfl k) ?_
  refine hw_1 (fun k => x_getf (v := 4109) dX3_isSound_3 fl_X3_44 (hkS (D := D) (show ga_K 4098 = (2, 0) from by decide +kernel) (by decide)) (hP.1 4098 4 4109 (by decide +kernel)) k) ?_
  refine hw_1 (fun k => x_iconst dX3_isSound_6 (by decide) k) ?_
  replace h := ga_bind_some h; obtain ⟨r7, D7, g7, h⟩ := h
  have hR7 := (h_X3_digest_ok (G := G) hP g7)
  obtain ⟨hP7, hE7, -⟩ := id hR7
  refine hw_call (rest := []) hR7 (fun hc hk9 => x_callV (as := [(0, x1), (2, 4109), (0, 0)]) (rest := []) dX3_isSound_7 hc (lw_V q5182 q5184 qs79 q395 q5185) (hkS (D := D) (show ga_K 4098 = (2, 0) from by decide +kernel) (by decide)) rfl rfl (show _ ∧ _ ∧ _ ∧ _ = some 3 from by decide +kernel) (by decide) (by decide) rfl (Nat.le_of_ble_eq_true rfl) hk9 aw_nox) ?_
  refine hw_1 (fun k => x_aload_n dX3_isSound_10 rfl k) ?_
  refine hw_1 (fun k => x_getf (v := 4107) dX3_isSound_11 fl_X3_33 (hkS (D := D7) (show ga_K 4098 = (2, 0) from by decide +kernel) (by decide)) (hP7.1 4098 2 4107 (by decide +kernel)) k) ?_
  refine hw_1 (fun k => x_iload_n dX3_isSound_14 rfl k) ?_
  replace h := ga_bind_some h; obtain ⟨r15, D15, g15, h⟩ := h
  have hR15 := (h_J2_get_ok (G := G) hP7 g15)
  obtain ⟨hP15, hE15, -⟩ := id hR15
  refine hw_call (rest := []) hR15 (fun hc hk9 => x_callV (as := [(0, x1)]) (rest := []) dX3_isSound_15 hc (lw_V q5180 q3183 q3184 q401 q3185) (hkS (D := D7) (show ga_K 4107 = (60, 0) from by decide +kernel) (by decide)) rfl rfl (show _ ∧ _ ∧ _ ∧ _ = some 1 from by decide +kernel) (by decide) (by decide) rfl (Nat.le_of_ble_eq_true rfl) hk9 aw_nox) ?_
  replace h := ga_ck_some h; obtain ⟨hc18_0, h⟩ := h
  refine hw_1 (fun k => x_castA (t := 2) dX3_isSound_18 q5181 rfl rfl (hc18_0.imp id hk_p) k) ?_
  refine hw_1 (fun k => x_astore_n (ls' := [(2, (2, r15)), (0, (2, 4098)), (1, (0, x1))]) dX3_isSound_21 (by decide) rfl k) ?_
  refine hw_1 (fun k => x_iconst dX3_isSound_22 (by decide) k) ?_
  refine hw_1 (fun k => x_istore_n (ls' := [(3, (0, 1)), (2, (2, r15)), (0, (2, 4098)), (1, (0, x1))]) dX3_isSound_23 (by decide) rfl k) ?_
  refine hw_1 (fun k => x_iconst dX3_isSound_24 (by decide) k) ?_
  refine hw_1 (fun k => x_istore (ls' := [(4, (0, 0)), (3, (0, 1)), (2, (2, r15)), (0, (2, 4098)), (1, (0, x1))]) dX3_isSound_25 (by decide) rfl k) ?_
  refine hw_locs [3, 2, 1, 0] (ls' := [(0, (2, 4098)), (2, (2, r15)), (3, (0, 1)), (4, (0, 0))]) rfl ?_
  refine h_X3_isSound_l27_ok hq (fun x3 D67 hP h => ?_) hP15 h
  · refine hw_1 (fun k => x_iload_n dX3_isSound_67 rfl k) ?_
    replace h := ga_ck_some h; obtain ⟨hc68_0, h⟩ := h
    obtain ⟨rfl, rfl⟩ := ga_end h
    exact hw_ret hP (x_iret dX3_isSound_68 rfl rfl hc68_0 hq)
theorem h_X3_check_l2_ok {G : aw_G} {M0 : aw_M} {D' : ga_D} {Q : Option aw_V → aw_M → Prop} {r : Int} (hq : Q (some (0, r)) (hM D')) {k27 : Int → ga_D → ga_S} (hk27 : ∀ (x2 : Int) (D : ga_D), h_P D → k27 x2 D = some (r, D') → aw_HW G "WasteHouse$TicketChain$Chain" cX3_check (some (.int)) 3 6 false M0 Q aw_no D' (hn D') (hsl D') 27 [(0, (2, 4098)), (2, (0, x2))] [] D) : ∀ {n : Nat} {x2 : Int} {D : ga_D}, h_P D → h_X3_check_l2 n x2 D k27 = some (r, D') → aw_HW G "WasteHouse$TicketChain$Chain" cX3_check (some (.int)) 3 6 false M0 Q aw_no D' (hn D') (hsl D') 2 [(0, (2, 4098)), (2, (0, x2))] [] D := by
  intro n
  induction n with
  | zero => intro x2 D hP h; exact absurd (h : (none : ga_S) = some (r, D')) (by intro h; cases h)
  | succ n ih =>
    intro x2 D hP h
    have ih : ∀ (x2 : Int) (D : ga_D), h_P D → h_X3_check_l2 n x2 D k27 = some (r, D') → aw_HW G "WasteHouse$TicketChain$Chain" cX3_check (some (.int)) 3 6 false M0 Q aw_no D' (hn D') (hsl D') 2 [(0, (2, 4098)), (2, (0, x2))] [] D := fun x2 D hP h => ih hP h
    replace h : (ga_bind (h_J2_size 4107 D) (fun r7 D7 => if r7 ≤ x2 then (k27 x2 D7) else (ga_bind (h_X3_isSound x2 D7) (fun r15 D15 => if r15 = 0 then (k27 x2 D15) else (ga_let (aw_w32 (x2 + 1)) (fun v21 => h_X3_check_l2 n v21 D15 k27))))) : ga_S) = some (r, D') := h
    refine hw_1 (fun k => x_iload_n dX3_check_2 rfl k) ?_
    refine hw_1 (fun k => x_aload_n dX3_check_3 rfl k) ?_
    refine hw_1 (fun k => x_getf (v := 4107) dX3_check_4 fl_X3_33 (hkS (D := D) (show ga_K 4098 = (2, 0) from by decide +kernel) (by decide)) (hP.1 4098 2 4107 (by decide +kernel)) k) ?_
    replace h := ga_bind_some h; obtain ⟨r7, D7, g7, h⟩ := h
    have hR7 := (h_J2_size_ok (G := G) hP g7)
    obtain ⟨hP7, hE7, -⟩ := id hR7
    refine hw_call (rest := [(0, x2)]) hR7 (fun hc hk9 => x_callV (as := []) (rest := [(0, x2)]) dX3_check_7 hc (lw_V q5118 q3530 q3531 q401 q3532) (hkS (D := D) (show ga_K 4107 = (60, 0) from by decide +kernel) (by decide)) rfl rfl (show _ ∧ _ ∧ _ ∧ _ = some 0 from by decide +kernel) (by decide) (by decide) rfl (Nat.le_of_ble_eq_true rfl) hk9 aw_nox) ?_
    by_cases c10 : r7 ≤ x2
    · rw [if_pos c10] at h
      refine hw_1 (fun k => x_icmp_ge (tgt := 27) dX3_check_10 (by decide) (fun _ => k) (fun z => absurd c10 z)) ?_
      exact hk27 _ _ hP7 h
    · rw [if_neg c10] at h
      refine hw_1 (fun k => x_icmp_ge (tgt := 27) dX3_check_10 (by decide) (fun z => absurd z c10) (fun _ => k)) ?_
      refine hw_1 (fun k => x_aload_n dX3_check_13 rfl k) ?_
      refine hw_1 (fun k => x_iload_n dX3_check_14 rfl k) ?_
      replace h := ga_bind_some h; obtain ⟨r15, D15, g15, h⟩ := h
      have hR15 := (h_X3_isSound_ok (G := G) hP7 g15)
      obtain ⟨hP15, hE15, -⟩ := id hR15
      refine hw_call (rest := []) hR15 (fun hc hk9 => x_callV (as := [(0, x2)]) (rest := []) dX3_check_15 hc (lw_V q5664 q5666 qs120 q395 q5667) (hkS (D := D7) (show ga_K 4098 = (2, 0) from by decide +kernel) (by decide)) rfl rfl (show _ ∧ _ ∧ _ ∧ _ = some 1 from by decide +kernel) (by decide) (by decide) rfl (Nat.le_of_ble_eq_true rfl) hk9 aw_nox) ?_
      by_cases c18 : r15 = 0
      · rw [if_pos c18] at h
        refine hw_1 (fun k => x_if_eq (tgt := 27) dX3_check_18 (by decide) (fun _ => k) (fun z => absurd c18 z)) ?_
        exact hk27 _ _ hP15 h
      · rw [if_neg c18] at h
        refine hw_1 (fun k => x_if_eq (tgt := 27) dX3_check_18 (by decide) (fun z => absurd z c18) (fun _ => k)) ?_
        replace h := ga_let_some h; obtain ⟨v21, ev21, h⟩ := h
        refine hw_1 (fun k => x_iinc (ls' := [(2, (0, v21)), (0, (2, 4098))]) dX3_check_21 rfl ev21.symm (by decide) rfl k) ?_
        refine hw_1 (fun k => x_goto (tgt := 2) dX3_check_24 (by decide) k) ?_
        refine hw_locs [1, 0] (ls' := [(0, (2, 4098)), (2, (0, v21))]) rfl ?_
        exact ih _ _ hP15 h
theorem h_X3_check_j27_ok {G : aw_G} {M0 : aw_M} {D' : ga_D} {Q : Option aw_V → aw_M → Prop} {r : Int} (hq : Q (some (0, r)) (hM D')) {x2 : Int} {D : ga_D} (hP : h_P D) (h : h_X3_check_j27 x2 D = some (r, D')) : aw_HW G "WasteHouse$TicketChain$Chain" cX3_check (some (.int)) 3 6 false M0 Q aw_no D' (hn D') (hsl D') 27 [(0, (2, 4098)), (2, (0, x2))] [] D := by
  unfold h_X3_check_j27 at h
  refine hw_1 (fun k => x_iload_n dX3_check_27 rfl k) ?_
  refine hw_1 (fun k => x_aload_n dX3_check_28 rfl k) ?_
  refine hw_1 (fun k => x_getf (v := 4107) dX3_check_29 fl_X3_33 (hkS (D := D) (show ga_K 4098 = (2, 0) from by decide +kernel) (by decide)) (hP.1 4098 2 4107 (by decide +kernel)) k) ?_
  replace h := ga_bind_some h; obtain ⟨r32, D32, g32, h⟩ := h
  have hR32 := (h_J2_size_ok (G := G) hP g32)
  obtain ⟨hP32, hE32, -⟩ := id hR32
  refine hw_call (rest := [(0, x2)]) hR32 (fun hc hk9 => x_callV (as := []) (rest := [(0, x2)]) dX3_check_32 hc (lw_V q5118 q3530 q3531 q401 q3532) (hkS (D := D) (show ga_K 4107 = (60, 0) from by decide +kernel) (by decide)) rfl rfl (show _ ∧ _ ∧ _ ∧ _ = some 0 from by decide +kernel) (by decide) (by decide) rfl (Nat.le_of_ble_eq_true rfl) hk9 aw_nox) ?_
  by_cases c35 : x2 ≠ r32
  · rw [if_pos c35] at h
    refine hw_1 (fun k => x_icmp_ne (tgt := 42) dX3_check_35 (by decide) (fun _ => k) (fun z => absurd c35 z)) ?_
    refine hw_1 (fun k => x_iload_n dX3_check_42 rfl k) ?_
    refine hw_1 (fun k => x_iconst dX3_check_43 (by decide) k) ?_
    refine hw_1 (fun k => x_iadd dX3_check_44 rfl k) ?_
    obtain ⟨rfl, rfl⟩ := ga_end h
    exact hw_ret hP32 (x_iret dX3_check_45 rfl rfl trivial hq)
  · rw [if_neg c35] at h
    refine hw_1 (fun k => x_icmp_ne (tgt := 42) dX3_check_35 (by decide) (fun z => absurd z c35) (fun _ => k)) ?_
    refine hw_1 (fun k => x_iconst dX3_check_38 (by decide) k) ?_
    refine hw_1 (fun k => x_goto (tgt := 45) dX3_check_39 (by decide) k) ?_
    obtain ⟨rfl, rfl⟩ := ga_end h
    exact hw_ret hP32 (x_iret dX3_check_45 rfl rfl trivial hq)
theorem h_X3_check_ok {G : aw_G} {D D' : ga_D} {r : Int} {x1 : Int} (hP : h_P D) (h : h_X3_check x1 D = some (r, D')) : aw_HR yX3_check cX3_check 3 (some (.int)) 6 G [(2, 4098), (0, x1)] D (some (0, r)) D' := by
  unfold h_X3_check at h
  refine hw_body (own := "WasteHouse$TicketChain$Chain") (ini := false) (ls := [(0, (2, 4098)), (1, (0, x1))]) rfl rfl (fun h => by cases h) (Nat.le_of_ble_eq_true rfl) rfl fun Q hq => ?_
  refine hw_1 (fun k => x_iload_n dX3_check_0 rfl k) ?_
  refine hw_1 (fun k => x_istore_n (ls' := [(2, (0, x1)), (0, (2, 4098)), (1, (0, x1))]) dX3_check_1 (by decide) rfl k) ?_
  refine hw_locs [1, 0] (ls' := [(0, (2, 4098)), (2, (0, x1))]) rfl ?_
  refine h_X3_check_l2_ok hq (fun x2 D27 hP h => ?_) hP h
  · refine h_X3_check_j27_ok hq hP h
theorem h_X2_check_ok {G : aw_G} {D D' : ga_D} {r : Int} {x1 : Int} (hP : h_P D) (h : h_X2_check x1 D = some (r, D')) : aw_HR yX2_check cX2_check 2 (some (.int)) 7 G [(2, 4097), (0, x1)] D (some (0, r)) D' := by
  unfold h_X2_check at h
  refine hw_body (own := "WasteHouse$TicketChain") (ini := false) (ls := [(0, (2, 4097)), (1, (0, x1))]) rfl rfl (fun h => by cases h) (Nat.le_of_ble_eq_true rfl) rfl fun Q hq => ?_
  refine hw_1 (fun k => x_iload_n dX2_check_0 rfl k) ?_
  by_cases c1 : x1 < 0
  · rw [if_pos c1] at h
    refine hw_1 (fun k => x_if_lt (tgt := 15) dX2_check_1 (by decide) (fun _ => k) (fun z => absurd c1 z)) ?_
    refine hw_1 (fun k => x_iconst dX2_check_15 (by decide) k) ?_
    refine hw_1 (fun k => x_goto (tgt := 27) dX2_check_16 (by decide) k) ?_
    obtain ⟨rfl, rfl⟩ := ga_end h
    exact hw_ret hP (x_iret dX2_check_27 rfl rfl trivial hq)
  · rw [if_neg c1] at h
    refine hw_1 (fun k => x_if_lt (tgt := 15) dX2_check_1 (by decide) (fun z => absurd z c1) (fun _ => k)) ?_
    refine hw_1 (fun k => x_iload_n dX2_check_4 rfl k) ?_
    refine hw_1 (fun k => x_aload_n dX2_check_5 rfl k) ?_
    refine hw_1 (fun k => x_getf (v := 4098) dX2_check_6 fl_X2_10 (hkS (D := D) (show ga_K 4097 = (1, 0) from by decide +kernel) (by decide)) (hP.1 4097 0 4098 (by decide +kernel)) k) ?_
    replace h := ga_bind_some h; obtain ⟨r9, D9, g9, h⟩ := h
    have hR9 := (h_X3_count_ok (G := G) hP g9)
    obtain ⟨hP9, hE9, -⟩ := id hR9
    refine hw_call (rest := [(0, x1)]) hR9 (fun hc hk9 => x_callV (as := []) (rest := [(0, x1)]) dX2_check_9 hc (lw_V q5656 q5657 q5658 q395 q5659) (hkS (D := D) (show ga_K 4098 = (2, 0) from by decide +kernel) (by decide)) rfl rfl (show _ ∧ _ ∧ _ ∧ _ = some 0 from by decide +kernel) (by decide) (by decide) rfl (Nat.le_of_ble_eq_true rfl) hk9 aw_nox) ?_
    by_cases c12 : x1 ≤ r9
    · rw [if_pos c12] at h
      refine hw_1 (fun k => x_icmp_le (tgt := 19) dX2_check_12 (by decide) (fun _ => k) (fun z => absurd c12 z)) ?_
      refine hw_1 (fun k => x_aload_n dX2_check_19 rfl k) ?_
      refine hw_1 (fun k => x_getf (v := 4098) dX2_check_20 fl_X2_10 (hkS (D := D9) (show ga_K 4097 = (1, 0) from by decide +kernel) (by decide)) (hP9.1 4097 0 4098 (by decide +kernel)) k) ?_
      refine hw_1 (fun k => x_iload_n dX2_check_23 rfl k) ?_
      replace h := ga_bind_some h; obtain ⟨r24, D24, g24, h⟩ := h
      have hR24 := (h_X3_check_ok (G := G) hP9 g24)
      obtain ⟨hP24, hE24, -⟩ := id hR24
      refine hw_call (rest := []) hR24 (fun hc hk9 => x_callV (as := [(0, x1)]) (rest := []) dX2_check_24 hc (lw_V q5660 q5661 q5662 q395 q5663) (hkS (D := D9) (show ga_K 4098 = (2, 0) from by decide +kernel) (by decide)) rfl rfl (show _ ∧ _ ∧ _ ∧ _ = some 1 from by decide +kernel) (by decide) (by decide) rfl (Nat.le_of_ble_eq_true rfl) hk9 aw_nox) ?_
      obtain ⟨rfl, rfl⟩ := ga_end h
      exact hw_ret hP24 (x_iret dX2_check_27 rfl rfl trivial hq)
    · rw [if_neg c12] at h
      refine hw_1 (fun k => x_icmp_le (tgt := 19) dX2_check_12 (by decide) (fun z => absurd z c12) (fun _ => k)) ?_
      refine hw_1 (fun k => x_iconst dX2_check_15 (by decide) k) ?_
      refine hw_1 (fun k => x_goto (tgt := 27) dX2_check_16 (by decide) k) ?_
      obtain ⟨rfl, rfl⟩ := ga_end h
      exact hw_ret hP9 (x_iret dX2_check_27 rfl rfl trivial hq)
theorem h_X2_follows_j73_ok {G : aw_G} {M0 : aw_M} {D' : ga_D} {Q : Option aw_V → aw_M → Prop} {r : Int} (hq : Q (some (0, r)) (hM D')) {x1 x3 x5 : Int} {D : ga_D} (hP : h_P D) (h : h_X2_follows_j73 x1 x3 x5 D = some (r, D')) : aw_HW G "WasteHouse$TicketChain" cX2_follows (some (.boolean)) 6 7 false M0 Q aw_no D' (hn D') (hsl D') 73 [(1, (0, x1)), (3, (1, x3)), (5, (2, x5))] [] D := by
  unfold h_X2_follows_j73 at h
  refine hw_1 (fun k => x_aload dX2_follows_73 rfl k) ?_
  refine hw_1 (fun k => x_iload_n dX2_follows_75 rfl k) ?_
  replace h := ga_bind_some h; obtain ⟨r76, D76, g76, h⟩ := h
  have hR76 := (h_J25_valueOf_ok (G := G) hP g76)
  obtain ⟨hP76, hE76, -⟩ := id hR76
  refine hw_call (rest := [(2, x5)]) hR76 (fun hc hk9 => x_callS (as := [(0, x1)]) (rest := [(2, x5)]) dX2_follows_76 hc (lw_S q5066 q3560 q476 q3561) (show _ ∧ _ ∧ _ = some 1 from by decide +kernel) (by decide) (by decide) rfl (Nat.le_of_ble_eq_true rfl) hk9 aw_nox) ?_
  refine hw_1 (fun k => x_lload_n dX2_follows_79 rfl k) ?_
  replace h := ga_bind_some h; obtain ⟨r80, D80, g80, h⟩ := h
  have hR80 := (h_J30_valueOf_ok (G := G) hP76 g80)
  obtain ⟨hP80, hE80, -⟩ := id hR80
  refine hw_call (rest := [(2, r76), (2, x5)]) hR80 (fun hc hk9 => x_callS (as := [(1, x3)]) (rest := [(2, r76), (2, x5)]) dX2_follows_80 hc (lw_S q6472 q4193 q485 q4194) (show _ ∧ _ ∧ _ = some 1 from by decide +kernel) (by decide) (by decide) rfl (Nat.le_of_ble_eq_true rfl) hk9 aw_nox) ?_
  replace h := ga_ck_some h; obtain ⟨hc83_0, h⟩ := h
  replace h := ga_bind_some h; obtain ⟨r83, D83, g83, h⟩ := h
  have hR83 := (h_J4_put_ok (G := G) hP80 g83)
  obtain ⟨hP83, hE83, -⟩ := id hR83
  refine hw_call (rest := []) hR83 (fun hc hk9 => x_callV (as := [(2, r76), (2, r80)]) (rest := []) dX2_follows_83 hc (lw_V q6471 q4237 q4238 q403 q4239) hc83_0 rfl rfl (show _ ∧ _ ∧ _ ∧ _ = some 2 from by decide +kernel) (by decide) (by decide) rfl (Nat.le_of_ble_eq_true rfl) hk9 aw_nox) ?_
  refine hw_1 (fun k => x_pop dX2_follows_86 rfl k) ?_
  refine hw_1 (fun k => x_iconst dX2_follows_87 (by decide) k) ?_
  obtain ⟨rfl, rfl⟩ := ga_end h
  exact hw_ret hP83 (x_iret dX2_follows_88 rfl rfl (show (0 : Int) ≤ 1 ∧ (1 : Int) < 2 from by decide) hq)
theorem h_X2_follows_ok {G : aw_G} {D D' : ga_D} {r : Int} {x1 x2 x3 : Int} (hP : h_P D) (h : h_X2_follows x1 x2 x3 D = some (r, D')) : aw_HR yX2_follows cX2_follows 6 (some (.boolean)) 7 G [(2, 4097), (0, x1), (0, x2), (1, x3)] D (some (0, r)) D' := by
  unfold h_X2_follows at h
  refine hw_body (own := "WasteHouse$TicketChain") (ini := false) (ls := [(0, (2, 4097)), (1, (0, x1)), (2, (0, x2)), (3, (1, x3))]) rfl rfl (fun h => by cases h) (Nat.le_of_ble_eq_true rfl) rfl fun Q hq => ?_
  refine hw_1 (fun k => x_iload_n dX2_follows_0 rfl k) ?_
  by_cases c1 : x1 < 0
  · rw [if_pos c1] at h
    refine hw_1 (fun k => x_if_lt (tgt := 27) dX2_follows_1 (by decide) (fun _ => k) (fun z => absurd c1 z)) ?_
    refine hw_1 (fun k => x_iconst dX2_follows_27 (by decide) k) ?_
    obtain ⟨rfl, rfl⟩ := ga_end h
    exact hw_ret hP (x_iret dX2_follows_28 rfl rfl (show (0 : Int) ≤ 0 ∧ (0 : Int) < 2 from by decide) hq)
  · rw [if_neg c1] at h
    refine hw_1 (fun k => x_if_lt (tgt := 27) dX2_follows_1 (by decide) (fun z => absurd z c1) (fun _ => k)) ?_
    refine hw_1 (fun k => x_iload_n dX2_follows_4 rfl k) ?_
    refine hw_1 (fun k => x_ldc (z := 100000) dX2_follows_5 q6470 (by decide) k) ?_
    by_cases c7 : 100000 < x1
    · rw [if_pos c7] at h
      refine hw_1 (fun k => x_icmp_gt (tgt := 27) dX2_follows_7 (by decide) (fun _ => k) (fun z => absurd c7 z)) ?_
      refine hw_1 (fun k => x_iconst dX2_follows_27 (by decide) k) ?_
      obtain ⟨rfl, rfl⟩ := ga_end h
      exact hw_ret hP (x_iret dX2_follows_28 rfl rfl (show (0 : Int) ≤ 0 ∧ (0 : Int) < 2 from by decide) hq)
    · rw [if_neg c7] at h
      refine hw_1 (fun k => x_icmp_gt (tgt := 27) dX2_follows_7 (by decide) (fun z => absurd z c7) (fun _ => k)) ?_
      refine hw_1 (fun k => x_iconst dX2_follows_10 (by decide) k) ?_
      refine hw_1 (fun k => x_iload_n dX2_follows_11 rfl k) ?_
      refine hw_1 (fun k => x_i2l dX2_follows_12 rfl k) ?_
      replace h := ga_bind_some h; obtain ⟨r13, D13, g13, h⟩ := h
      have hR13 := (h_X63_fits_ok (G := G) hP g13)
      obtain ⟨hP13, hE13, -⟩ := id hR13
      refine hw_call (rest := []) hR13 (fun hc hk9 => x_callS (as := [(0, 1), (1, x2)]) (rest := []) dX2_follows_13 hc (lw_S q5106 q5107 q504 q5108) (show _ ∧ _ ∧ _ = some 2 from by decide +kernel) (by decide) (by decide) rfl (Nat.le_of_ble_eq_true rfl) hk9 aw_nox) ?_
      by_cases c16 : r13 = 0
      · rw [if_pos c16] at h
        refine hw_1 (fun k => x_if_eq (tgt := 27) dX2_follows_16 (by decide) (fun _ => k) (fun z => absurd c16 z)) ?_
        refine hw_1 (fun k => x_iconst dX2_follows_27 (by decide) k) ?_
        obtain ⟨rfl, rfl⟩ := ga_end h
        exact hw_ret hP13 (x_iret dX2_follows_28 rfl rfl (show (0 : Int) ≤ 0 ∧ (0 : Int) < 2 from by decide) hq)
      · rw [if_neg c16] at h
        refine hw_1 (fun k => x_if_eq (tgt := 27) dX2_follows_16 (by decide) (fun z => absurd z c16) (fun _ => k)) ?_
        refine hw_1 (fun k => x_iconst dX2_follows_19 (by decide) k) ?_
        refine hw_1 (fun k => x_lload_n dX2_follows_20 rfl k) ?_
        replace h := ga_bind_some h; obtain ⟨r21, D21, g21, h⟩ := h
        have hR21 := (h_X63_fits_ok (G := G) hP13 g21)
        obtain ⟨hP21, hE21, -⟩ := id hR21
        refine hw_call (rest := []) hR21 (fun hc hk9 => x_callS (as := [(0, 4), (1, x3)]) (rest := []) dX2_follows_21 hc (lw_S q5106 q5107 q504 q5108) (show _ ∧ _ ∧ _ = some 2 from by decide +kernel) (by decide) (by decide) rfl (Nat.le_of_ble_eq_true rfl) hk9 aw_nox) ?_
        by_cases c24 : r21 ≠ 0
        · rw [if_pos c24] at h
          refine hw_1 (fun k => x_if_ne (tgt := 29) dX2_follows_24 (by decide) (fun _ => k) (fun z => absurd c24 z)) ?_
          refine hw_1 (fun k => x_aload_n dX2_follows_29 rfl k) ?_
          refine hw_1 (fun k => x_getf (v := 4113) dX2_follows_30 fl_X2_29 (hkS (D := D21) (show ga_K 4097 = (1, 0) from by decide +kernel) (by decide)) (hP21.1 4097 3 4113 (by decide +kernel)) k) ?_
          refine hw_1 (fun k => x_iload_n dX2_follows_33 rfl k) ?_
          replace h := ga_bind_some h; obtain ⟨r34, D34, g34, h⟩ := h
          have hR34 := (h_J25_valueOf_ok (G := G) hP21 g34)
          obtain ⟨hP34, hE34, -⟩ := id hR34
          refine hw_call (rest := [(2, 4113)]) hR34 (fun hc hk9 => x_callS (as := [(0, x2)]) (rest := [(2, 4113)]) dX2_follows_34 hc (lw_S q5066 q3560 q476 q3561) (show _ ∧ _ ∧ _ = some 1 from by decide +kernel) (by decide) (by decide) rfl (Nat.le_of_ble_eq_true rfl) hk9 aw_nox) ?_
          replace h := ga_bind_some h; obtain ⟨r37, D37, g37, h⟩ := h
          have hR37 := (h_J4_get_ok (G := G) hP34 g37)
          obtain ⟨hP37, hE37, -⟩ := id hR37
          refine hw_call (rest := []) hR37 (fun hc hk9 => x_callV (as := [(2, r34)]) (rest := []) dX2_follows_37 hc (lw_V q5067 q4315 q4316 q403 q4317) (hkS (D := D34) (show ga_K 4113 = (61, 0) from by decide +kernel) (by decide)) rfl rfl (show _ ∧ _ ∧ _ ∧ _ = some 1 from by decide +kernel) (by decide) (by decide) rfl (Nat.le_of_ble_eq_true rfl) hk9 aw_nox) ?_
          replace h := ga_ck_some h; obtain ⟨hc40_0, h⟩ := h
          refine hw_1 (fun k => x_castL (L := [61]) dX2_follows_40 q679 sbl_java_util_TreeMap (aw_or1 hc40_0) k) ?_
          refine hw_1 (fun k => x_astore (ls' := [(5, (2, r37)), (0, (2, 4097)), (1, (0, x1)), (2, (0, x2)), (3, (1, x3))]) dX2_follows_43 (by decide) rfl k) ?_
          refine hw_1 (fun k => x_aload dX2_follows_45 rfl k) ?_
          by_cases c47 : r37 ≠ 0
          · rw [if_pos c47] at h
            refine hw_1 (fun k => x_ifnonnull (tgt := 73) dX2_follows_47 (by decide) (fun _ => k) (fun z => absurd c47 z)) ?_
            refine hw_locs [2, 4, 0] (ls' := [(1, (0, x1)), (3, (1, x3)), (5, (2, r37))]) rfl ?_
            refine h_X2_follows_j73_ok hq hP37 h
          · rw [if_neg c47] at h
            refine hw_1 (fun k => x_ifnonnull (tgt := 73) dX2_follows_47 (by decide) (fun z => absurd z c47) (fun _ => k)) ?_
            replace h := ga_let_some h; obtain ⟨z50, ez50, h⟩ := h
            replace h := ga_let_some h; obtain ⟨D50, eD50, h⟩ := h
            refine hy_new hP37 ez50 eD50 rfl rfl dX2_follows_50 rfl rfl q679 q622 q403 (fun hP50 hE50 hz50 hg50 => ?_)
            refine hw_1 (fun k => x_dup dX2_follows_53 rfl k) ?_
            replace h := ga_bind_some h; obtain ⟨r54, D54, g54, h⟩ := h
            have hR54 := (h_J4_init_ok (G := G) (hk_pos1 hz50 (by decide)) hP50 g54)
            obtain ⟨hP54, hE54, -⟩ := id hR54
            refine hw_call (rest := [(2, z50)]) hR54 (fun hc hk9 => x_callI (as := []) (rest := [(2, z50)]) dX2_follows_54 hc (lw_meth q625) q403 q680 q624 hz50 rfl rfl (show _ ∧ _ ∧ _ = some 0 from by decide +kernel) (by decide) (by decide) rfl (Nat.le_of_ble_eq_true rfl) hk9 aw_nox) ?_
            refine hw_1 (fun k => x_astore (ls' := [(5, (2, z50)), (0, (2, 4097)), (1, (0, x1)), (2, (0, x2)), (3, (1, x3))]) dX2_follows_57 (by decide) rfl k) ?_
            refine hw_1 (fun k => x_aload_n dX2_follows_59 rfl k) ?_
            refine hw_1 (fun k => x_getf (v := 4113) dX2_follows_60 fl_X2_29 (hkS (D := D54) (show ga_K 4097 = (1, 0) from by decide +kernel) (by decide)) (hP54.1 4097 3 4113 (by decide +kernel)) k) ?_
            refine hw_1 (fun k => x_iload_n dX2_follows_63 rfl k) ?_
            replace h := ga_bind_some h; obtain ⟨r64, D64, g64, h⟩ := h
            have hR64 := (h_J25_valueOf_ok (G := G) hP54 g64)
            obtain ⟨hP64, hE64, -⟩ := id hR64
            refine hw_call (rest := [(2, 4113)]) hR64 (fun hc hk9 => x_callS (as := [(0, x2)]) (rest := [(2, 4113)]) dX2_follows_64 hc (lw_S q5066 q3560 q476 q3561) (show _ ∧ _ ∧ _ = some 1 from by decide +kernel) (by decide) (by decide) rfl (Nat.le_of_ble_eq_true rfl) hk9 aw_nox) ?_
            refine hw_1 (fun k => x_aload dX2_follows_67 rfl k) ?_
            replace h := ga_bind_some h; obtain ⟨r69, D69, g69, h⟩ := h
            have hR69 := (h_J4_put_ok (G := G) hP64 g69)
            obtain ⟨hP69, hE69, -⟩ := id hR69
            refine hw_call (rest := []) hR69 (fun hc hk9 => x_callV (as := [(2, r64), (2, z50)]) (rest := []) dX2_follows_69 hc (lw_V q6471 q4237 q4238 q403 q4239) (hkS (D := D64) (show ga_K 4113 = (61, 0) from by decide +kernel) (by decide)) rfl rfl (show _ ∧ _ ∧ _ ∧ _ = some 2 from by decide +kernel) (by decide) (by decide) rfl (Nat.le_of_ble_eq_true rfl) hk9 aw_nox) ?_
            refine hw_1 (fun k => x_pop dX2_follows_72 rfl k) ?_
            refine hw_locs [2, 4, 0] (ls' := [(1, (0, x1)), (3, (1, x3)), (5, (2, z50))]) rfl ?_
            refine h_X2_follows_j73_ok hq hP69 h
        · rw [if_neg c24] at h
          refine hw_1 (fun k => x_if_ne (tgt := 29) dX2_follows_24 (by decide) (fun z => absurd z c24) (fun _ => k)) ?_
          refine hw_1 (fun k => x_iconst dX2_follows_27 (by decide) k) ?_
          obtain ⟨rfl, rfl⟩ := ga_end h
          exact hw_ret hP21 (x_iret dX2_follows_28 rfl rfl (show (0 : Int) ≤ 0 ∧ (0 : Int) < 2 from by decide) hq)
theorem h_X3_correction_ok {G : aw_G} {D D' : ga_D} {r : Int} {x1 x2 x3 x5 : Int} (hP : h_P D) (h : h_X3_correction x1 x2 x3 x5 D = some (r, D')) : aw_HR yX3_correction cX3_correction 7 (some (.int)) 14 G [(2, 4098), (2, x1), (0, x2), (1, x3), (0, x5)] D (some (0, r)) D' := by
  unfold h_X3_correction at h
  refine hw_body (own := "WasteHouse$TicketChain$Chain") (ini := false) (ls := [(0, (2, 4098)), (1, (2, x1)), (2, (0, x2)), (3, (1, x3)), (5, (0, x5))]) rfl rfl (fun h => by cases h) (Nat.le_of_ble_eq_true rfl) rfl fun Q hq => ?_
  refine hw_1 (fun k => x_aload_n dX3_correction_0 rfl k) ?_
  refine hw_1 (fun k => x_iconst dX3_correction_1 (by decide) k) ?_
  refine hw_1 (fun k => x_aload_n dX3_correction_2 rfl k) ?_
  replace h := ga_ck_some h; obtain ⟨hc3_0, h⟩ := h
  refine hw_1 (fun k => x_getf (v := D x1 0) dX3_correction_3 fl_X3_68 hc3_0 rfl k) ?_
  replace h := ga_bind_some h; obtain ⟨r6, D6, g6, h⟩ := h
  have hR6 := (h_X3_begin_ok (G := G) hP g6)
  obtain ⟨hP6, hE6, -⟩ := id hR6
  refine hw_call (rest := []) hR6 (fun hc hk9 => x_callV (as := [(0, 2), (0, D x1 0)]) (rest := []) dX3_correction_6 hc (lw_V q5154 q5156 qs77 q395 q5157) (hkS (D := D) (show ga_K 4098 = (2, 0) from by decide +kernel) (by decide)) rfl rfl (show _ ∧ _ ∧ _ ∧ _ = some 2 from by decide +kernel) (by decide) (by decide) rfl (Nat.le_of_ble_eq_true rfl) hk9 aw_nox) ?_
  refine hw_1 (fun k => x_astore (ls' := [(6, (2, r6)), (0, (2, 4098)), (1, (2, x1)), (2, (0, x2)), (3, (1, x3)), (5, (0, x5))]) dX3_correction_9 (by decide) rfl k) ?_
  refine hw_1 (fun k => x_aload dX3_correction_11 rfl k) ?_
  refine hw_1 (fun k => x_iload_n dX3_correction_13 rfl k) ?_
  replace h := ga_ck_some h; obtain ⟨hc14_1, h⟩ := h
  replace h := ga_ck_some h; obtain ⟨hc14_2, h⟩ := h
  replace h := ga_bind_some h; obtain ⟨r14, D14, g14, h⟩ := h
  have hR14 := (show aw_HR _ _ _ _ _ G ((2, r6) :: _) _ _ _ from (by rw [hc14_2]; exact (h_X6_four_ok (G := G) hP6 g14)))
  obtain ⟨hP14, hE14, -⟩ := id hR14
  refine hw_call (rest := []) hR14 (fun hc hk9 => x_callV (as := [(0, x2)]) (rest := []) dX3_correction_14 hc (lw_V q5171 q5164 q5165 q398 q5166) hc14_1 rfl rfl (show _ ∧ _ ∧ _ ∧ _ = some 1 from by decide +kernel) (by decide) (by decide) rfl (Nat.le_of_ble_eq_true rfl) hk9 aw_nox) ?_
  refine hw_1 (fun k => x_aload dX3_correction_17 rfl k) ?_
  refine hw_1 (fun k => x_lload_n dX3_correction_19 rfl k) ?_
  replace h := ga_ck_some h; obtain ⟨hc20_3, h⟩ := h
  replace h := ga_bind_some h; obtain ⟨r20, D20, g20, h⟩ := h
  have hR20 := (show aw_HR _ _ _ _ _ G ((2, r6) :: _) _ _ _ from (by rw [hc20_3]; exact (h_X6_eight_ok (G := G) hP14 g20)))
  obtain ⟨hP20, hE20, -⟩ := id hR20
  refine hw_call (rest := []) hR20 (fun hc hk9 => x_callV (as := [(1, x3)]) (rest := []) dX3_correction_20 hc (lw_V q5172 q5173 q5174 q398 q5175) (h_kx hE14 hc14_1 (by decide)) rfl rfl (show _ ∧ _ ∧ _ ∧ _ = some 1 from by decide +kernel) (by decide) (by decide) rfl (Nat.le_of_ble_eq_true rfl) hk9 aw_nox) ?_
  refine hw_1 (fun k => x_aload dX3_correction_23 rfl k) ?_
  refine hw_1 (fun k => x_iload dX3_correction_25 rfl k) ?_
  replace h := ga_ck_some h; obtain ⟨hc27_4, h⟩ := h
  replace h := ga_bind_some h; obtain ⟨r27, D27, g27, h⟩ := h
  have hR27 := (show aw_HR _ _ _ _ _ G ((2, r6) :: _) _ _ _ from (by rw [hc27_4]; exact (h_X6_four_ok (G := G) hP20 g27)))
  obtain ⟨hP27, hE27, -⟩ := id hR27
  refine hw_call (rest := []) hR27 (fun hc hk9 => x_callV (as := [(0, x5)]) (rest := []) dX3_correction_27 hc (lw_V q5171 q5164 q5165 q398 q5166) (h_kx hE20 (h_kx hE14 hc14_1 (by decide)) (by decide)) rfl rfl (show _ ∧ _ ∧ _ ∧ _ = some 1 from by decide +kernel) (by decide) (by decide) rfl (Nat.le_of_ble_eq_true rfl) hk9 aw_nox) ?_
  refine hw_1 (fun k => x_aload_n dX3_correction_30 rfl k) ?_
  refine hw_1 (fun k => x_aload_n dX3_correction_31 rfl k) ?_
  replace h := ga_bind_some h; obtain ⟨r32, D32, g32, h⟩ := h
  have hR32 := (h_X3_close_ok (G := G) hP27 g32)
  obtain ⟨hP32, hE32, -⟩ := id hR32
  refine hw_call (rest := []) hR32 (fun hc hk9 => x_callV (as := [(2, x1)]) (rest := []) dX3_correction_32 hc (lw_V q5176 q5178 qs78 q395 q5179) (hkS (D := D27) (show ga_K 4098 = (2, 0) from by decide +kernel) (by decide)) rfl rfl (show _ ∧ _ ∧ _ ∧ _ = some 1 from by decide +kernel) (by decide) (by decide) rfl (Nat.le_of_ble_eq_true rfl) hk9 aw_nox) ?_
  obtain ⟨rfl, rfl⟩ := ga_end h
  exact hw_ret hP32 (x_iret dX3_correction_35 rfl rfl trivial hq)
theorem h_X2_correct_ok {G : aw_G} {D D' : ga_D} {r : Int} {x1 x2 x3 x5 : Int} (hP : h_P D) (h : h_X2_correct x1 x2 x3 x5 D = some (r, D')) : aw_HR yX2_correct cX2_correct 9 (some (.int)) 15 G [(2, 4097), (0, x1), (0, x2), (1, x3), (0, x5)] D (some (0, r)) D' := by
  unfold h_X2_correct at h
  refine hw_body (own := "WasteHouse$TicketChain") (ini := false) (ls := [(0, (2, 4097)), (1, (0, x1)), (2, (0, x2)), (3, (1, x3)), (5, (0, x5))]) rfl rfl (fun h => by cases h) (Nat.le_of_ble_eq_true rfl) rfl fun Q hq => ?_
  refine hw_1 (fun k => x_aload_n dX2_correct_0 rfl k) ?_
  refine hw_1 (fun k => x_iload_n dX2_correct_1 rfl k) ?_
  replace h := ga_bind_some h; obtain ⟨r2, D2, g2, h⟩ := h
  have hR2 := (h_X2_isTicket_ok (G := G) hP g2)
  obtain ⟨hP2, hE2, -⟩ := id hR2
  refine hw_call (rest := []) hR2 (fun hc hk9 => x_callV (as := [(0, x1)]) (rest := []) dX2_correct_2 hc (lw_V q5615 q5617 qs118 q394 q5618) (hkS (D := D) (show ga_K 4097 = (1, 0) from by decide +kernel) (by decide)) rfl rfl (show _ ∧ _ ∧ _ ∧ _ = some 1 from by decide +kernel) (by decide) (by decide) rfl (Nat.le_of_ble_eq_true rfl) hk9 aw_nox) ?_
  by_cases c5 : r2 = 0
  · rw [if_pos c5] at h
    refine hw_1 (fun k => x_if_eq (tgt := 37) dX2_correct_5 (by decide) (fun _ => k) (fun z => absurd c5 z)) ?_
    refine hw_1 (fun k => x_iconst dX2_correct_37 (by decide) k) ?_
    obtain ⟨rfl, rfl⟩ := ga_end h
    exact hw_ret hP2 (x_iret dX2_correct_38 rfl rfl trivial hq)
  · rw [if_neg c5] at h
    refine hw_1 (fun k => x_if_eq (tgt := 37) dX2_correct_5 (by decide) (fun z => absurd z c5) (fun _ => k)) ?_
    refine hw_1 (fun k => x_iload_n dX2_correct_8 rfl k) ?_
    refine hw_1 (fun k => x_lload_n dX2_correct_9 rfl k) ?_
    replace h := ga_bind_some h; obtain ⟨r10, D10, g10, h⟩ := h
    have hR10 := (h_X63_fits_ok (G := G) hP2 g10)
    obtain ⟨hP10, hE10, -⟩ := id hR10
    refine hw_call (rest := []) hR10 (fun hc hk9 => x_callS (as := [(0, x2), (1, x3)]) (rest := []) dX2_correct_10 hc (lw_S q5106 q5107 q504 q5108) (show _ ∧ _ ∧ _ = some 2 from by decide +kernel) (by decide) (by decide) rfl (Nat.le_of_ble_eq_true rfl) hk9 aw_nox) ?_
    by_cases c13 : r10 = 0
    · rw [if_pos c13] at h
      refine hw_1 (fun k => x_if_eq (tgt := 37) dX2_correct_13 (by decide) (fun _ => k) (fun z => absurd c13 z)) ?_
      refine hw_1 (fun k => x_iconst dX2_correct_37 (by decide) k) ?_
      obtain ⟨rfl, rfl⟩ := ga_end h
      exact hw_ret hP10 (x_iret dX2_correct_38 rfl rfl trivial hq)
    · rw [if_neg c13] at h
      refine hw_1 (fun k => x_if_eq (tgt := 37) dX2_correct_13 (by decide) (fun z => absurd z c13) (fun _ => k)) ?_
      refine hw_1 (fun k => x_bipush dX2_correct_16 (by decide) k) ?_
      refine hw_1 (fun k => x_iload dX2_correct_18 rfl k) ?_
      refine hw_1 (fun k => x_i2l dX2_correct_20 rfl k) ?_
      replace h := ga_bind_some h; obtain ⟨r21, D21, g21, h⟩ := h
      have hR21 := (h_X63_fits_ok (G := G) hP10 g21)
      obtain ⟨hP21, hE21, -⟩ := id hR21
      refine hw_call (rest := []) hR21 (fun hc hk9 => x_callS (as := [(0, 7), (1, x5)]) (rest := []) dX2_correct_21 hc (lw_S q5106 q5107 q504 q5108) (show _ ∧ _ ∧ _ = some 2 from by decide +kernel) (by decide) (by decide) rfl (Nat.le_of_ble_eq_true rfl) hk9 aw_nox) ?_
      by_cases c24 : r21 = 0
      · rw [if_pos c24] at h
        refine hw_1 (fun k => x_if_eq (tgt := 37) dX2_correct_24 (by decide) (fun _ => k) (fun z => absurd c24 z)) ?_
        refine hw_1 (fun k => x_iconst dX2_correct_37 (by decide) k) ?_
        obtain ⟨rfl, rfl⟩ := ga_end h
        exact hw_ret hP21 (x_iret dX2_correct_38 rfl rfl trivial hq)
      · rw [if_neg c24] at h
        refine hw_1 (fun k => x_if_eq (tgt := 37) dX2_correct_24 (by decide) (fun z => absurd z c24) (fun _ => k)) ?_
        refine hw_1 (fun k => x_aload_n dX2_correct_27 rfl k) ?_
        refine hw_1 (fun k => x_getf (v := 4098) dX2_correct_28 fl_X2_10 (hkS (D := D21) (show ga_K 4097 = (1, 0) from by decide +kernel) (by decide)) (hP21.1 4097 0 4098 (by decide +kernel)) k) ?_
        replace h := ga_bind_some h; obtain ⟨r31, D31, g31, h⟩ := h
        have hR31 := (h_X3_isFull_ok (G := G) hP21 g31)
        obtain ⟨hP31, hE31, -⟩ := id hR31
        refine hw_call (rest := []) hR31 (fun hc hk9 => x_callV (as := []) (rest := []) dX2_correct_31 hc (lw_V q5114 q5115 q5116 q395 q5117) (hkS (D := D21) (show ga_K 4098 = (2, 0) from by decide +kernel) (by decide)) rfl rfl (show _ ∧ _ ∧ _ ∧ _ = some 0 from by decide +kernel) (by decide) (by decide) rfl (Nat.le_of_ble_eq_true rfl) hk9 aw_nox) ?_
        by_cases c34 : r31 = 0
        · rw [if_pos c34] at h
          refine hw_1 (fun k => x_if_eq (tgt := 39) dX2_correct_34 (by decide) (fun _ => k) (fun z => absurd c34 z)) ?_
          refine hw_1 (fun k => x_aload_n dX2_correct_39 rfl k) ?_
          refine hw_1 (fun k => x_getf (v := 4111) dX2_correct_40 fl_X2_19 (hkS (D := D31) (show ga_K 4097 = (1, 0) from by decide +kernel) (by decide)) (hP31.1 4097 1 4111 (by decide +kernel)) k) ?_
          refine hw_1 (fun k => x_iload_n dX2_correct_43 rfl k) ?_
          replace h := ga_bind_some h; obtain ⟨r44, D44, g44, h⟩ := h
          have hR44 := (h_J2_get_ok (G := G) hP31 g44)
          obtain ⟨hP44, hE44, -⟩ := id hR44
          refine hw_call (rest := []) hR44 (fun hc hk9 => x_callV (as := [(0, x1)]) (rest := []) dX2_correct_44 hc (lw_V q5619 q3183 q3184 q401 q3185) (hkS (D := D31) (show ga_K 4111 = (60, 0) from by decide +kernel) (by decide)) rfl rfl (show _ ∧ _ ∧ _ ∧ _ = some 1 from by decide +kernel) (by decide) (by decide) rfl (Nat.le_of_ble_eq_true rfl) hk9 aw_nox) ?_
          replace h := ga_ck_some h; obtain ⟨hc47_0, h⟩ := h
          refine hw_1 (fun k => x_castL (L := [58]) dX2_correct_47 q5122 sbl_WasteHouse_TicketChain_Ticket (aw_or1 hc47_0) k) ?_
          refine hw_1 (fun k => x_astore (ls' := [(6, (2, r44)), (0, (2, 4097)), (1, (0, x1)), (2, (0, x2)), (3, (1, x3)), (5, (0, x5))]) dX2_correct_50 (by decide) rfl k) ?_
          refine hw_1 (fun k => x_aload dX2_correct_52 rfl k) ?_
          refine hw_1 (fun k => x_iload_n dX2_correct_54 rfl k) ?_
          replace h := ga_ck_some h; obtain ⟨hc55_1, h⟩ := h
          replace h := ga_bind_some h; obtain ⟨r55, D55, g55, h⟩ := h
          have hR55 := (h_X63_get_ok (G := G) hP44 g55)
          obtain ⟨hP55, hE55, -⟩ := id hR55
          refine hw_call (rest := []) hR55 (fun hc hk9 => x_callV (as := [(0, x2)]) (rest := []) dX2_correct_55 hc (lw_V q6480 q5168 q5169 q504 q5170) hc55_1 rfl rfl (show _ ∧ _ ∧ _ ∧ _ = some 1 from by decide +kernel) (by decide) (by decide) rfl (Nat.le_of_ble_eq_true rfl) hk9 aw_nox) ?_
          refine hw_1 (fun k => x_lstore (ls' := [(7, (1, r55)), (6, (2, r44)), (0, (2, 4097)), (1, (0, x1)), (2, (0, x2)), (3, (1, x3)), (5, (0, x5))]) dX2_correct_58 (by decide) rfl k) ?_
          refine hw_1 (fun k => x_aload dX2_correct_60 rfl k) ?_
          replace h := ga_bind_some h; obtain ⟨r62, D62, g62, h⟩ := h
          have hR62 := (h_X63_isVoid_ok (G := G) hP55 g62)
          obtain ⟨hP62, hE62, -⟩ := id hR62
          refine hw_call (rest := []) hR62 (fun hc hk9 => x_callV (as := []) (rest := []) dX2_correct_62 hc (lw_V q6481 q5625 q5626 q504 q5627) (h_kx hE55 hc55_1 (by decide)) rfl rfl (show _ ∧ _ ∧ _ ∧ _ = some 0 from by decide +kernel) (by decide) (by decide) rfl (Nat.le_of_ble_eq_true rfl) hk9 aw_nox) ?_
          by_cases c65 : r62 = 0
          · rw [if_pos c65] at h
            refine hw_1 (fun k => x_if_eq (tgt := 70) dX2_correct_65 (by decide) (fun _ => k) (fun z => absurd c65 z)) ?_
            refine hw_1 (fun k => x_aload dX2_correct_70 rfl k) ?_
            refine hw_1 (fun k => x_iload_n dX2_correct_72 rfl k) ?_
            refine hw_1 (fun k => x_lload_n dX2_correct_73 rfl k) ?_
            replace h := ga_bind_some h; obtain ⟨r74, D74, g74, h⟩ := h
            have hR74 := (h_X63_set_ok (G := G) hP62 g74)
            obtain ⟨hP74, hE74, -⟩ := id hR74
            refine hw_call (rest := []) hR74 (fun hc hk9 => x_callV (as := [(0, x2), (1, x3)]) (rest := []) dX2_correct_74 hc (lw_V q5146 q5147 q5148 q504 q5149) (h_kx hE62 (h_kx hE55 hc55_1 (by decide)) (by decide)) rfl rfl (show _ ∧ _ ∧ _ ∧ _ = some 2 from by decide +kernel) (by decide) (by decide) rfl (Nat.le_of_ble_eq_true rfl) hk9 aw_nox) ?_
            refine hw_1 (fun k => x_aload dX2_correct_77 rfl k) ?_
            refine hw_1 (fun k => x_iconst dX2_correct_79 (by decide) k) ?_
            replace h := ga_bind_some h; obtain ⟨r80, D80, g80, h⟩ := h
            have hR80 := (h_X63_get_ok (G := G) hP74 g80)
            obtain ⟨hP80, hE80, -⟩ := id hR80
            refine hw_call (rest := []) hR80 (fun hc hk9 => x_callV (as := [(0, 5)]) (rest := []) dX2_correct_80 hc (lw_V q6480 q5168 q5169 q504 q5170) (h_kx hE74 (h_kx hE62 (h_kx hE55 hc55_1 (by decide)) (by decide)) (by decide)) rfl rfl (show _ ∧ _ ∧ _ ∧ _ = some 1 from by decide +kernel) (by decide) (by decide) rfl (Nat.le_of_ble_eq_true rfl) hk9 aw_nox) ?_
            refine hw_1 (fun k => x_lconst (v := 0) dX2_correct_83 rfl k) ?_
            refine hw_1 (fun k => x_lcmp dX2_correct_84 rfl k) ?_
            by_cases c85 : 0 ≤ r80
            · rw [if_pos c85] at h
              refine hw_1 (fun k => x_if_ge (tgt := 98) dX2_correct_85 (by decide) (fun _ => k) (fun z => absurd (cmi_ge.mpr c85) z)) ?_
              refine hw_1 (fun k => x_aload_n dX2_correct_98 rfl k) ?_
              refine hw_1 (fun k => x_iconst dX2_correct_99 (by decide) k) ?_
              replace h := ga_let_some h; obtain ⟨D100, eD100, h⟩ := h
              refine hw_set eD100 (by decide) (by decide) (fun k => x_putf dX2_correct_100 fl_X2_39 rfl (hkS (D := D80) (show ga_K 4097 = (1, 0) from by decide +kernel) (by decide)) (by decide) trivial k) ?_
              have hP100 : h_P D100 := hP80.set eD100 (by decide) (by decide) (hPn (hkS (D := D80) (show ga_K 4097 = (1, 0) from by decide +kernel) (by decide)) rfl)
              have hE100 : h_E D80 D100 := h_E_set eD100 (by decide)
              refine hw_1 (fun k => x_aload_n dX2_correct_103 rfl k) ?_
              refine hw_1 (fun k => x_getf (v := 4098) dX2_correct_104 fl_X2_10 (hkS (D := D100) (show ga_K 4097 = (1, 0) from by decide +kernel) (by decide)) (hP100.1 4097 0 4098 (by decide +kernel)) k) ?_
              refine hw_1 (fun k => x_aload dX2_correct_107 rfl k) ?_
              refine hw_1 (fun k => x_iload_n dX2_correct_109 rfl k) ?_
              refine hw_1 (fun k => x_lload_n dX2_correct_110 rfl k) ?_
              refine hw_1 (fun k => x_iload dX2_correct_111 rfl k) ?_
              replace h := ga_bind_some h; obtain ⟨r113, D113, g113, h⟩ := h
              have hR113 := (h_X3_correction_ok (G := G) hP100 g113)
              obtain ⟨hP113, hE113, -⟩ := id hR113
              refine hw_call (rest := []) hR113 (fun hc hk9 => x_callV (as := [(2, r44), (0, x2), (1, x3), (0, x5)]) (rest := []) dX2_correct_113 hc (lw_V q6482 q6483 q6484 q395 q6485) (hkS (D := D100) (show ga_K 4098 = (2, 0) from by decide +kernel) (by decide)) rfl rfl (show _ ∧ _ ∧ _ ∧ _ = some 4 from by decide +kernel) (by decide) (by decide) rfl (Nat.le_of_ble_eq_true rfl) hk9 aw_nox) ?_
              obtain ⟨rfl, rfl⟩ := ga_end h
              exact hw_ret hP113 (x_iret dX2_correct_116 rfl rfl trivial hq)
            · rw [if_neg c85] at h
              refine hw_1 (fun k => x_if_ge (tgt := 98) dX2_correct_85 (by decide) (fun z => absurd (cmi_ge.mp z) c85) (fun _ => k)) ?_
              refine hw_1 (fun k => x_aload dX2_correct_88 rfl k) ?_
              refine hw_1 (fun k => x_iload_n dX2_correct_90 rfl k) ?_
              refine hw_1 (fun k => x_lload dX2_correct_91 rfl k) ?_
              replace h := ga_bind_some h; obtain ⟨r93, D93, g93, h⟩ := h
              have hR93 := (h_X63_set_ok (G := G) hP80 g93)
              obtain ⟨hP93, hE93, -⟩ := id hR93
              refine hw_call (rest := []) hR93 (fun hc hk9 => x_callV (as := [(0, x2), (1, r55)]) (rest := []) dX2_correct_93 hc (lw_V q5146 q5147 q5148 q504 q5149) (h_kx hE80 (h_kx hE74 (h_kx hE62 (h_kx hE55 hc55_1 (by decide)) (by decide)) (by decide)) (by decide)) rfl rfl (show _ ∧ _ ∧ _ ∧ _ = some 2 from by decide +kernel) (by decide) (by decide) rfl (Nat.le_of_ble_eq_true rfl) hk9 aw_nox) ?_
              refine hw_1 (fun k => x_iconst dX2_correct_96 (by decide) k) ?_
              obtain ⟨rfl, rfl⟩ := ga_end h
              exact hw_ret hP93 (x_iret dX2_correct_97 rfl rfl trivial hq)
          · rw [if_neg c65] at h
            refine hw_1 (fun k => x_if_eq (tgt := 70) dX2_correct_65 (by decide) (fun z => absurd z c65) (fun _ => k)) ?_
            refine hw_1 (fun k => x_iconst dX2_correct_68 (by decide) k) ?_
            obtain ⟨rfl, rfl⟩ := ga_end h
            exact hw_ret hP62 (x_iret dX2_correct_69 rfl rfl trivial hq)
        · rw [if_neg c34] at h
          refine hw_1 (fun k => x_if_eq (tgt := 39) dX2_correct_34 (by decide) (fun z => absurd z c34) (fun _ => k)) ?_
          refine hw_1 (fun k => x_iconst dX2_correct_37 (by decide) k) ?_
          obtain ⟨rfl, rfl⟩ := ga_end h
          exact hw_ret hP31 (x_iret dX2_correct_38 rfl rfl trivial hq)
theorem h_X3_makeVoid_ok {G : aw_G} {D D' : ga_D} {r : Int} {x1 x2 : Int} (hP : h_P D) (h : h_X3_makeVoid x1 x2 D = some (r, D')) : aw_HR yX3_makeVoid cX3_makeVoid 3 (some (.int)) 14 G [(2, 4098), (2, x1), (0, x2)] D (some (0, r)) D' := by
  unfold h_X3_makeVoid at h
  refine hw_body (own := "WasteHouse$TicketChain$Chain") (ini := false) (ls := [(0, (2, 4098)), (1, (2, x1)), (2, (0, x2))]) rfl rfl (fun h => by cases h) (Nat.le_of_ble_eq_true rfl) rfl fun Q hq => ?_
  refine hw_1 (fun k => x_aload_n dX3_makeVoid_0 rfl k) ?_
  refine hw_1 (fun k => x_iconst dX3_makeVoid_1 (by decide) k) ?_
  refine hw_1 (fun k => x_aload_n dX3_makeVoid_2 rfl k) ?_
  replace h := ga_ck_some h; obtain ⟨hc3_0, h⟩ := h
  refine hw_1 (fun k => x_getf (v := D x1 0) dX3_makeVoid_3 fl_X3_68 hc3_0 rfl k) ?_
  replace h := ga_bind_some h; obtain ⟨r6, D6, g6, h⟩ := h
  have hR6 := (h_X3_begin_ok (G := G) hP g6)
  obtain ⟨hP6, hE6, -⟩ := id hR6
  refine hw_call (rest := []) hR6 (fun hc hk9 => x_callV (as := [(0, 3), (0, D x1 0)]) (rest := []) dX3_makeVoid_6 hc (lw_V q5154 q5156 qs77 q395 q5157) (hkS (D := D) (show ga_K 4098 = (2, 0) from by decide +kernel) (by decide)) rfl rfl (show _ ∧ _ ∧ _ ∧ _ = some 2 from by decide +kernel) (by decide) (by decide) rfl (Nat.le_of_ble_eq_true rfl) hk9 aw_nox) ?_
  refine hw_1 (fun k => x_iload_n dX3_makeVoid_9 rfl k) ?_
  replace h := ga_ck_some h; obtain ⟨hc10_1, h⟩ := h
  replace h := ga_ck_some h; obtain ⟨hc10_2, h⟩ := h
  replace h := ga_bind_some h; obtain ⟨r10, D10, g10, h⟩ := h
  have hR10 := (show aw_HR _ _ _ _ _ G ((2, r6) :: _) _ _ _ from (by rw [hc10_2]; exact (h_X6_four_ok (G := G) hP6 g10)))
  obtain ⟨hP10, hE10, -⟩ := id hR10
  refine hw_call (rest := []) hR10 (fun hc hk9 => x_callV (as := [(0, x2)]) (rest := []) dX3_makeVoid_10 hc (lw_V q5171 q5164 q5165 q398 q5166) hc10_1 rfl rfl (show _ ∧ _ ∧ _ ∧ _ = some 1 from by decide +kernel) (by decide) (by decide) rfl (Nat.le_of_ble_eq_true rfl) hk9 aw_nox) ?_
  refine hw_1 (fun k => x_aload_n dX3_makeVoid_13 rfl k) ?_
  refine hw_1 (fun k => x_aload_n dX3_makeVoid_14 rfl k) ?_
  replace h := ga_bind_some h; obtain ⟨r15, D15, g15, h⟩ := h
  have hR15 := (h_X3_close_ok (G := G) hP10 g15)
  obtain ⟨hP15, hE15, -⟩ := id hR15
  refine hw_call (rest := []) hR15 (fun hc hk9 => x_callV (as := [(2, x1)]) (rest := []) dX3_makeVoid_15 hc (lw_V q5176 q5178 qs78 q395 q5179) (hkS (D := D10) (show ga_K 4098 = (2, 0) from by decide +kernel) (by decide)) rfl rfl (show _ ∧ _ ∧ _ ∧ _ = some 1 from by decide +kernel) (by decide) (by decide) rfl (Nat.le_of_ble_eq_true rfl) hk9 aw_nox) ?_
  obtain ⟨rfl, rfl⟩ := ga_end h
  exact hw_ret hP15 (x_iret dX3_makeVoid_18 rfl rfl trivial hq)
theorem h_X2_voids_ok {G : aw_G} {D D' : ga_D} {r : Int} {x1 x2 : Int} (hP : h_P D) (h : h_X2_voids x1 x2 D = some (r, D')) : aw_HR yX2_voids cX2_voids 4 (some (.int)) 15 G [(2, 4097), (0, x1), (0, x2)] D (some (0, r)) D' := by
  unfold h_X2_voids at h
  refine hw_body (own := "WasteHouse$TicketChain") (ini := false) (ls := [(0, (2, 4097)), (1, (0, x1)), (2, (0, x2))]) rfl rfl (fun h => by cases h) (Nat.le_of_ble_eq_true rfl) rfl fun Q hq => ?_
  refine hw_1 (fun k => x_aload_n dX2_voids_0 rfl k) ?_
  refine hw_1 (fun k => x_iload_n dX2_voids_1 rfl k) ?_
  replace h := ga_bind_some h; obtain ⟨r2, D2, g2, h⟩ := h
  have hR2 := (h_X2_isTicket_ok (G := G) hP g2)
  obtain ⟨hP2, hE2, -⟩ := id hR2
  refine hw_call (rest := []) hR2 (fun hc hk9 => x_callV (as := [(0, x1)]) (rest := []) dX2_voids_2 hc (lw_V q5615 q5617 qs118 q394 q5618) (hkS (D := D) (show ga_K 4097 = (1, 0) from by decide +kernel) (by decide)) rfl rfl (show _ ∧ _ ∧ _ ∧ _ = some 1 from by decide +kernel) (by decide) (by decide) rfl (Nat.le_of_ble_eq_true rfl) hk9 aw_nox) ?_
  by_cases c5 : r2 = 0
  · rw [if_pos c5] at h
    refine hw_1 (fun k => x_if_eq (tgt := 46) dX2_voids_5 (by decide) (fun _ => k) (fun z => absurd c5 z)) ?_
    refine hw_1 (fun k => x_iconst dX2_voids_46 (by decide) k) ?_
    obtain ⟨rfl, rfl⟩ := ga_end h
    exact hw_ret hP2 (x_iret dX2_voids_47 rfl rfl trivial hq)
  · rw [if_neg c5] at h
    refine hw_1 (fun k => x_if_eq (tgt := 46) dX2_voids_5 (by decide) (fun z => absurd z c5) (fun _ => k)) ?_
    refine hw_1 (fun k => x_iload_n dX2_voids_8 rfl k) ?_
    refine hw_1 (fun k => x_iconst dX2_voids_9 (by decide) k) ?_
    by_cases c10 : x2 < 1
    · rw [if_pos c10] at h
      refine hw_1 (fun k => x_icmp_lt (tgt := 46) dX2_voids_10 (by decide) (fun _ => k) (fun z => absurd c10 z)) ?_
      refine hw_1 (fun k => x_iconst dX2_voids_46 (by decide) k) ?_
      obtain ⟨rfl, rfl⟩ := ga_end h
      exact hw_ret hP2 (x_iret dX2_voids_47 rfl rfl trivial hq)
    · rw [if_neg c10] at h
      refine hw_1 (fun k => x_icmp_lt (tgt := 46) dX2_voids_10 (by decide) (fun z => absurd z c10) (fun _ => k)) ?_
      refine hw_1 (fun k => x_iload_n dX2_voids_13 rfl k) ?_
      refine hw_1 (fun k => x_bipush dX2_voids_14 (by decide) k) ?_
      by_cases c16 : 99 < x2
      · rw [if_pos c16] at h
        refine hw_1 (fun k => x_icmp_gt (tgt := 46) dX2_voids_16 (by decide) (fun _ => k) (fun z => absurd c16 z)) ?_
        refine hw_1 (fun k => x_iconst dX2_voids_46 (by decide) k) ?_
        obtain ⟨rfl, rfl⟩ := ga_end h
        exact hw_ret hP2 (x_iret dX2_voids_47 rfl rfl trivial hq)
      · rw [if_neg c16] at h
        refine hw_1 (fun k => x_icmp_gt (tgt := 46) dX2_voids_16 (by decide) (fun z => absurd z c16) (fun _ => k)) ?_
        refine hw_1 (fun k => x_aload_n dX2_voids_19 rfl k) ?_
        refine hw_1 (fun k => x_getf (v := 4111) dX2_voids_20 fl_X2_19 (hkS (D := D2) (show ga_K 4097 = (1, 0) from by decide +kernel) (by decide)) (hP2.1 4097 1 4111 (by decide +kernel)) k) ?_
        refine hw_1 (fun k => x_iload_n dX2_voids_23 rfl k) ?_
        replace h := ga_bind_some h; obtain ⟨r24, D24, g24, h⟩ := h
        have hR24 := (h_J2_get_ok (G := G) hP2 g24)
        obtain ⟨hP24, hE24, -⟩ := id hR24
        refine hw_call (rest := []) hR24 (fun hc hk9 => x_callV (as := [(0, x1)]) (rest := []) dX2_voids_24 hc (lw_V q5619 q3183 q3184 q401 q3185) (hkS (D := D2) (show ga_K 4111 = (60, 0) from by decide +kernel) (by decide)) rfl rfl (show _ ∧ _ ∧ _ ∧ _ = some 1 from by decide +kernel) (by decide) (by decide) rfl (Nat.le_of_ble_eq_true rfl) hk9 aw_nox) ?_
        replace h := ga_ck_some h; obtain ⟨hc27_0, h⟩ := h
        refine hw_1 (fun k => x_castL (L := [58]) dX2_voids_27 q5122 sbl_WasteHouse_TicketChain_Ticket (aw_or1 hc27_0) k) ?_
        replace h := ga_ck_some h; obtain ⟨hc30_1, h⟩ := h
        replace h := ga_bind_some h; obtain ⟨r30, D30, g30, h⟩ := h
        have hR30 := (h_X63_isVoid_ok (G := G) hP24 g30)
        obtain ⟨hP30, hE30, -⟩ := id hR30
        refine hw_call (rest := []) hR30 (fun hc hk9 => x_callV (as := []) (rest := []) dX2_voids_30 hc (lw_V q6481 q5625 q5626 q504 q5627) hc30_1 rfl rfl (show _ ∧ _ ∧ _ ∧ _ = some 0 from by decide +kernel) (by decide) (by decide) rfl (Nat.le_of_ble_eq_true rfl) hk9 aw_nox) ?_
        by_cases c33 : r30 ≠ 0
        · rw [if_pos c33] at h
          refine hw_1 (fun k => x_if_ne (tgt := 46) dX2_voids_33 (by decide) (fun _ => k) (fun z => absurd c33 z)) ?_
          refine hw_1 (fun k => x_iconst dX2_voids_46 (by decide) k) ?_
          obtain ⟨rfl, rfl⟩ := ga_end h
          exact hw_ret hP30 (x_iret dX2_voids_47 rfl rfl trivial hq)
        · rw [if_neg c33] at h
          refine hw_1 (fun k => x_if_ne (tgt := 46) dX2_voids_33 (by decide) (fun z => absurd z c33) (fun _ => k)) ?_
          refine hw_1 (fun k => x_aload_n dX2_voids_36 rfl k) ?_
          refine hw_1 (fun k => x_getf (v := 4098) dX2_voids_37 fl_X2_10 (hkS (D := D30) (show ga_K 4097 = (1, 0) from by decide +kernel) (by decide)) (hP30.1 4097 0 4098 (by decide +kernel)) k) ?_
          replace h := ga_bind_some h; obtain ⟨r40, D40, g40, h⟩ := h
          have hR40 := (h_X3_isFull_ok (G := G) hP30 g40)
          obtain ⟨hP40, hE40, -⟩ := id hR40
          refine hw_call (rest := []) hR40 (fun hc hk9 => x_callV (as := []) (rest := []) dX2_voids_40 hc (lw_V q5114 q5115 q5116 q395 q5117) (hkS (D := D30) (show ga_K 4098 = (2, 0) from by decide +kernel) (by decide)) rfl rfl (show _ ∧ _ ∧ _ ∧ _ = some 0 from by decide +kernel) (by decide) (by decide) rfl (Nat.le_of_ble_eq_true rfl) hk9 aw_nox) ?_
          by_cases c43 : r40 = 0
          · rw [if_pos c43] at h
            refine hw_1 (fun k => x_if_eq (tgt := 48) dX2_voids_43 (by decide) (fun _ => k) (fun z => absurd c43 z)) ?_
            refine hw_1 (fun k => x_aload_n dX2_voids_48 rfl k) ?_
            refine hw_1 (fun k => x_getf (v := 4111) dX2_voids_49 fl_X2_19 (hkS (D := D40) (show ga_K 4097 = (1, 0) from by decide +kernel) (by decide)) (hP40.1 4097 1 4111 (by decide +kernel)) k) ?_
            refine hw_1 (fun k => x_iload_n dX2_voids_52 rfl k) ?_
            replace h := ga_bind_some h; obtain ⟨r53, D53, g53, h⟩ := h
            have hR53 := (h_J2_get_ok (G := G) hP40 g53)
            obtain ⟨hP53, hE53, -⟩ := id hR53
            refine hw_call (rest := []) hR53 (fun hc hk9 => x_callV (as := [(0, x1)]) (rest := []) dX2_voids_53 hc (lw_V q5619 q3183 q3184 q401 q3185) (hkS (D := D40) (show ga_K 4111 = (60, 0) from by decide +kernel) (by decide)) rfl rfl (show _ ∧ _ ∧ _ ∧ _ = some 1 from by decide +kernel) (by decide) (by decide) rfl (Nat.le_of_ble_eq_true rfl) hk9 aw_nox) ?_
            replace h := ga_ck_some h; obtain ⟨hc56_0, h⟩ := h
            refine hw_1 (fun k => x_castL (L := [58]) dX2_voids_56 q5122 sbl_WasteHouse_TicketChain_Ticket (aw_or1 hc56_0) k) ?_
            refine hw_1 (fun k => x_astore_n (ls' := [(3, (2, r53)), (0, (2, 4097)), (1, (0, x1)), (2, (0, x2))]) dX2_voids_59 (by decide) rfl k) ?_
            refine hw_1 (fun k => x_aload_n dX2_voids_60 rfl k) ?_
            refine hw_1 (fun k => x_bipush dX2_voids_61 (by decide) k) ?_
            refine hw_1 (fun k => x_iload_n dX2_voids_63 rfl k) ?_
            refine hw_1 (fun k => x_i2l dX2_voids_64 rfl k) ?_
            replace h := ga_ck_some h; obtain ⟨hc65_1, h⟩ := h
            replace h := ga_bind_some h; obtain ⟨r65, D65, g65, h⟩ := h
            have hR65 := (h_X63_set_ok (G := G) hP53 g65)
            obtain ⟨hP65, hE65, -⟩ := id hR65
            refine hw_call (rest := []) hR65 (fun hc hk9 => x_callV (as := [(0, 8), (1, x2)]) (rest := []) dX2_voids_65 hc (lw_V q5146 q5147 q5148 q504 q5149) hc65_1 rfl rfl (show _ ∧ _ ∧ _ ∧ _ = some 2 from by decide +kernel) (by decide) (by decide) rfl (Nat.le_of_ble_eq_true rfl) hk9 aw_nox) ?_
            refine hw_1 (fun k => x_aload_n dX2_voids_68 rfl k) ?_
            refine hw_1 (fun k => x_iconst dX2_voids_69 (by decide) k) ?_
            replace h := ga_let_some h; obtain ⟨D70, eD70, h⟩ := h
            refine hw_set eD70 (by decide) (by decide) (fun k => x_putf dX2_voids_70 fl_X2_39 rfl (hkS (D := D65) (show ga_K 4097 = (1, 0) from by decide +kernel) (by decide)) (by decide) trivial k) ?_
            have hP70 : h_P D70 := hP65.set eD70 (by decide) (by decide) (hPn (hkS (D := D65) (show ga_K 4097 = (1, 0) from by decide +kernel) (by decide)) rfl)
            have hE70 : h_E D65 D70 := h_E_set eD70 (by decide)
            refine hw_1 (fun k => x_aload_n dX2_voids_73 rfl k) ?_
            refine hw_1 (fun k => x_getf (v := 4098) dX2_voids_74 fl_X2_10 (hkS (D := D70) (show ga_K 4097 = (1, 0) from by decide +kernel) (by decide)) (hP70.1 4097 0 4098 (by decide +kernel)) k) ?_
            refine hw_1 (fun k => x_aload_n dX2_voids_77 rfl k) ?_
            refine hw_1 (fun k => x_iload_n dX2_voids_78 rfl k) ?_
            replace h := ga_bind_some h; obtain ⟨r79, D79, g79, h⟩ := h
            have hR79 := (h_X3_makeVoid_ok (G := G) hP70 g79)
            obtain ⟨hP79, hE79, -⟩ := id hR79
            refine hw_call (rest := []) hR79 (fun hc hk9 => x_callV (as := [(2, r53), (0, x2)]) (rest := []) dX2_voids_79 hc (lw_V q6490 q6491 q6492 q395 q6493) (hkS (D := D70) (show ga_K 4098 = (2, 0) from by decide +kernel) (by decide)) rfl rfl (show _ ∧ _ ∧ _ ∧ _ = some 2 from by decide +kernel) (by decide) (by decide) rfl (Nat.le_of_ble_eq_true rfl) hk9 aw_nox) ?_
            obtain ⟨rfl, rfl⟩ := ga_end h
            exact hw_ret hP79 (x_iret dX2_voids_82 rfl rfl trivial hq)
          · rw [if_neg c43] at h
            refine hw_1 (fun k => x_if_eq (tgt := 48) dX2_voids_43 (by decide) (fun z => absurd z c43) (fun _ => k)) ?_
            refine hw_1 (fun k => x_iconst dX2_voids_46 (by decide) k) ?_
            obtain ⟨rfl, rfl⟩ := ga_end h
            exact hw_ret hP40 (x_iret dX2_voids_47 rfl rfl trivial hq)
theorem h_X2_at_ok {G : aw_G} {D D' : ga_D} {r : Int} {x1 x2 : Int} (hP : h_P D) (h : h_X2_at x1 x2 D = some (r, D')) : aw_HR yX2_at cX2_at 3 (some (.long)) 3 G [(2, 4097), (0, x1), (0, x2)] D (some (1, r)) D' := by
  unfold h_X2_at at h
  refine hw_body (own := "WasteHouse$TicketChain") (ini := false) (ls := [(0, (2, 4097)), (1, (0, x1)), (2, (0, x2))]) rfl rfl (fun h => by cases h) (Nat.le_of_ble_eq_true rfl) rfl fun Q hq => ?_
  refine hw_1 (fun k => x_aload_n dX2_at_0 rfl k) ?_
  refine hw_1 (fun k => x_iload_n dX2_at_1 rfl k) ?_
  replace h := ga_bind_some h; obtain ⟨r2, D2, g2, h⟩ := h
  have hR2 := (h_X2_isTicket_ok (G := G) hP g2)
  obtain ⟨hP2, hE2, -⟩ := id hR2
  refine hw_call (rest := []) hR2 (fun hc hk9 => x_callV (as := [(0, x1)]) (rest := []) dX2_at_2 hc (lw_V q5615 q5617 qs118 q394 q5618) (hkS (D := D) (show ga_K 4097 = (1, 0) from by decide +kernel) (by decide)) rfl rfl (show _ ∧ _ ∧ _ ∧ _ = some 1 from by decide +kernel) (by decide) (by decide) rfl (Nat.le_of_ble_eq_true rfl) hk9 aw_nox) ?_
  by_cases c5 : r2 = 0
  · rw [if_pos c5] at h
    refine hw_1 (fun k => x_if_eq (tgt := 18) dX2_at_5 (by decide) (fun _ => k) (fun z => absurd c5 z)) ?_
    refine hw_1 (fun k => x_ldc2 (z := (-1)) dX2_at_18 q5096 (by decide) k) ?_
    refine hw_1 (fun k => x_goto (tgt := 39) dX2_at_21 (by decide) k) ?_
    obtain ⟨rfl, rfl⟩ := ga_end h
    exact hw_ret hP2 (x_lret dX2_at_39 rfl hq)
  · rw [if_neg c5] at h
    refine hw_1 (fun k => x_if_eq (tgt := 18) dX2_at_5 (by decide) (fun z => absurd z c5) (fun _ => k)) ?_
    refine hw_1 (fun k => x_iload_n dX2_at_8 rfl k) ?_
    by_cases c9 : x2 < 0
    · rw [if_pos c9] at h
      refine hw_1 (fun k => x_if_lt (tgt := 18) dX2_at_9 (by decide) (fun _ => k) (fun z => absurd c9 z)) ?_
      refine hw_1 (fun k => x_ldc2 (z := (-1)) dX2_at_18 q5096 (by decide) k) ?_
      refine hw_1 (fun k => x_goto (tgt := 39) dX2_at_21 (by decide) k) ?_
      obtain ⟨rfl, rfl⟩ := ga_end h
      exact hw_ret hP2 (x_lret dX2_at_39 rfl hq)
    · rw [if_neg c9] at h
      refine hw_1 (fun k => x_if_lt (tgt := 18) dX2_at_9 (by decide) (fun z => absurd z c9) (fun _ => k)) ?_
      refine hw_1 (fun k => x_iload_n dX2_at_12 rfl k) ?_
      refine hw_1 (fun k => x_bipush dX2_at_13 (by decide) k) ?_
      by_cases c15 : x2 ≤ 8
      · rw [if_pos c15] at h
        refine hw_1 (fun k => x_icmp_le (tgt := 24) dX2_at_15 (by decide) (fun _ => k) (fun z => absurd c15 z)) ?_
        refine hw_1 (fun k => x_aload_n dX2_at_24 rfl k) ?_
        refine hw_1 (fun k => x_getf (v := 4111) dX2_at_25 fl_X2_19 (hkS (D := D2) (show ga_K 4097 = (1, 0) from by decide +kernel) (by decide)) (hP2.1 4097 1 4111 (by decide +kernel)) k) ?_
        refine hw_1 (fun k => x_iload_n dX2_at_28 rfl k) ?_
        replace h := ga_bind_some h; obtain ⟨r29, D29, g29, h⟩ := h
        have hR29 := (h_J2_get_ok (G := G) hP2 g29)
        obtain ⟨hP29, hE29, -⟩ := id hR29
        refine hw_call (rest := []) hR29 (fun hc hk9 => x_callV (as := [(0, x1)]) (rest := []) dX2_at_29 hc (lw_V q5619 q3183 q3184 q401 q3185) (hkS (D := D2) (show ga_K 4111 = (60, 0) from by decide +kernel) (by decide)) rfl rfl (show _ ∧ _ ∧ _ ∧ _ = some 1 from by decide +kernel) (by decide) (by decide) rfl (Nat.le_of_ble_eq_true rfl) hk9 aw_nox) ?_
        replace h := ga_ck_some h; obtain ⟨hc32_0, h⟩ := h
        refine hw_1 (fun k => x_castL (L := [58]) dX2_at_32 q5122 sbl_WasteHouse_TicketChain_Ticket (aw_or1 hc32_0) k) ?_
        refine hw_1 (fun k => x_iload_n dX2_at_35 rfl k) ?_
        replace h := ga_ck_some h; obtain ⟨hc36_1, h⟩ := h
        replace h := ga_bind_some h; obtain ⟨r36, D36, g36, h⟩ := h
        have hR36 := (h_X63_get_ok (G := G) hP29 g36)
        obtain ⟨hP36, hE36, -⟩ := id hR36
        refine hw_call (rest := []) hR36 (fun hc hk9 => x_callV (as := [(0, x2)]) (rest := []) dX2_at_36 hc (lw_V q6480 q5168 q5169 q504 q5170) hc36_1 rfl rfl (show _ ∧ _ ∧ _ ∧ _ = some 1 from by decide +kernel) (by decide) (by decide) rfl (Nat.le_of_ble_eq_true rfl) hk9 aw_nox) ?_
        obtain ⟨rfl, rfl⟩ := ga_end h
        exact hw_ret hP36 (x_lret dX2_at_39 rfl hq)
      · rw [if_neg c15] at h
        refine hw_1 (fun k => x_icmp_le (tgt := 24) dX2_at_15 (by decide) (fun z => absurd z c15) (fun _ => k)) ?_
        refine hw_1 (fun k => x_ldc2 (z := (-1)) dX2_at_18 q5096 (by decide) k) ?_
        refine hw_1 (fun k => x_goto (tgt := 39) dX2_at_21 (by decide) k) ?_
        obtain ⟨rfl, rfl⟩ := ga_end h
        exact hw_ret hP2 (x_lret dX2_at_39 rfl hq)
theorem h_X2_number_ok {G : aw_G} {D D' : ga_D} {r : Int} {x1 : Int} (hP : h_P D) (h : h_X2_number x1 D = some (r, D')) : aw_HR yX2_number cX2_number 2 (some (.int)) 3 G [(2, 4097), (0, x1)] D (some (0, r)) D' := by
  unfold h_X2_number at h
  refine hw_body (own := "WasteHouse$TicketChain") (ini := false) (ls := [(0, (2, 4097)), (1, (0, x1))]) rfl rfl (fun h => by cases h) (Nat.le_of_ble_eq_true rfl) rfl fun Q hq => ?_
  refine hw_1 (fun k => x_aload_n dX2_number_0 rfl k) ?_
  refine hw_1 (fun k => x_iload_n dX2_number_1 rfl k) ?_
  replace h := ga_bind_some h; obtain ⟨r2, D2, g2, h⟩ := h
  have hR2 := (h_X2_isTicket_ok (G := G) hP g2)
  obtain ⟨hP2, hE2, -⟩ := id hR2
  refine hw_call (rest := []) hR2 (fun hc hk9 => x_callV (as := [(0, x1)]) (rest := []) dX2_number_2 hc (lw_V q5615 q5617 qs118 q394 q5618) (hkS (D := D) (show ga_K 4097 = (1, 0) from by decide +kernel) (by decide)) rfl rfl (show _ ∧ _ ∧ _ ∧ _ = some 1 from by decide +kernel) (by decide) (by decide) rfl (Nat.le_of_ble_eq_true rfl) hk9 aw_nox) ?_
  by_cases c5 : r2 = 0
  · rw [if_pos c5] at h
    refine hw_1 (fun k => x_if_eq (tgt := 25) dX2_number_5 (by decide) (fun _ => k) (fun z => absurd c5 z)) ?_
    refine hw_1 (fun k => x_iconst dX2_number_25 (by decide) k) ?_
    obtain ⟨rfl, rfl⟩ := ga_end h
    exact hw_ret hP2 (x_iret dX2_number_26 rfl rfl trivial hq)
  · rw [if_neg c5] at h
    refine hw_1 (fun k => x_if_eq (tgt := 25) dX2_number_5 (by decide) (fun z => absurd z c5) (fun _ => k)) ?_
    refine hw_1 (fun k => x_aload_n dX2_number_8 rfl k) ?_
    refine hw_1 (fun k => x_getf (v := 4111) dX2_number_9 fl_X2_19 (hkS (D := D2) (show ga_K 4097 = (1, 0) from by decide +kernel) (by decide)) (hP2.1 4097 1 4111 (by decide +kernel)) k) ?_
    refine hw_1 (fun k => x_iload_n dX2_number_12 rfl k) ?_
    replace h := ga_bind_some h; obtain ⟨r13, D13, g13, h⟩ := h
    have hR13 := (h_J2_get_ok (G := G) hP2 g13)
    obtain ⟨hP13, hE13, -⟩ := id hR13
    refine hw_call (rest := []) hR13 (fun hc hk9 => x_callV (as := [(0, x1)]) (rest := []) dX2_number_13 hc (lw_V q5619 q3183 q3184 q401 q3185) (hkS (D := D2) (show ga_K 4111 = (60, 0) from by decide +kernel) (by decide)) rfl rfl (show _ ∧ _ ∧ _ ∧ _ = some 1 from by decide +kernel) (by decide) (by decide) rfl (Nat.le_of_ble_eq_true rfl) hk9 aw_nox) ?_
    replace h := ga_ck_some h; obtain ⟨hc16_0, h⟩ := h
    refine hw_1 (fun k => x_castL (L := [58]) dX2_number_16 q5122 sbl_WasteHouse_TicketChain_Ticket (aw_or1 hc16_0) k) ?_
    replace h := ga_ck_some h; obtain ⟨hc19_1, h⟩ := h
    refine hw_1 (fun k => x_getf (v := D13 r13 0) dX2_number_19 fl_X2_138 hc19_1 rfl k) ?_
    refine hw_1 (fun k => x_goto (tgt := 26) dX2_number_22 (by decide) k) ?_
    obtain ⟨rfl, rfl⟩ := ga_end h
    exact hw_ret hP13 (x_iret dX2_number_26 rfl rfl trivial hq)
theorem h_X2_gap_ok {G : aw_G} {D D' : ga_D} {r : Int} {x1 : Int} (hP : h_P D) (h : h_X2_gap x1 D = some (r, D')) : aw_HR yX2_gap cX2_gap 2 (some (.int)) 3 G [(2, 4097), (0, x1)] D (some (0, r)) D' := by
  unfold h_X2_gap at h
  refine hw_body (own := "WasteHouse$TicketChain") (ini := false) (ls := [(0, (2, 4097)), (1, (0, x1))]) rfl rfl (fun h => by cases h) (Nat.le_of_ble_eq_true rfl) rfl fun Q hq => ?_
  refine hw_1 (fun k => x_iload_n dX2_gap_0 rfl k) ?_
  by_cases c1 : x1 < 0
  · rw [if_pos c1] at h
    refine hw_1 (fun k => x_if_lt (tgt := 15) dX2_gap_1 (by decide) (fun _ => k) (fun z => absurd c1 z)) ?_
    refine hw_1 (fun k => x_iconst dX2_gap_15 (by decide) k) ?_
    refine hw_1 (fun k => x_goto (tgt := 33) dX2_gap_16 (by decide) k) ?_
    obtain ⟨rfl, rfl⟩ := ga_end h
    exact hw_ret hP (x_iret dX2_gap_33 rfl rfl trivial hq)
  · rw [if_neg c1] at h
    refine hw_1 (fun k => x_if_lt (tgt := 15) dX2_gap_1 (by decide) (fun z => absurd z c1) (fun _ => k)) ?_
    refine hw_1 (fun k => x_iload_n dX2_gap_4 rfl k) ?_
    refine hw_1 (fun k => x_aload_n dX2_gap_5 rfl k) ?_
    refine hw_1 (fun k => x_getf (v := 4112) dX2_gap_6 fl_X2_23 (hkS (D := D) (show ga_K 4097 = (1, 0) from by decide +kernel) (by decide)) (hP.1 4097 2 4112 (by decide +kernel)) k) ?_
    replace h := ga_bind_some h; obtain ⟨r9, D9, g9, h⟩ := h
    have hR9 := (h_J2_size_ok (G := G) hP g9)
    obtain ⟨hP9, hE9, -⟩ := id hR9
    refine hw_call (rest := [(0, x1)]) hR9 (fun hc hk9 => x_callV (as := []) (rest := [(0, x1)]) dX2_gap_9 hc (lw_V q5218 q3530 q3531 q401 q3532) (hkS (D := D) (show ga_K 4112 = (60, 0) from by decide +kernel) (by decide)) rfl rfl (show _ ∧ _ ∧ _ ∧ _ = some 0 from by decide +kernel) (by decide) (by decide) rfl (Nat.le_of_ble_eq_true rfl) hk9 aw_nox) ?_
    by_cases c12 : x1 < r9
    · rw [if_pos c12] at h
      refine hw_1 (fun k => x_icmp_lt (tgt := 19) dX2_gap_12 (by decide) (fun _ => k) (fun z => absurd c12 z)) ?_
      refine hw_1 (fun k => x_aload_n dX2_gap_19 rfl k) ?_
      refine hw_1 (fun k => x_getf (v := 4112) dX2_gap_20 fl_X2_23 (hkS (D := D9) (show ga_K 4097 = (1, 0) from by decide +kernel) (by decide)) (hP9.1 4097 2 4112 (by decide +kernel)) k) ?_
      refine hw_1 (fun k => x_iload_n dX2_gap_23 rfl k) ?_
      replace h := ga_bind_some h; obtain ⟨r24, D24, g24, h⟩ := h
      have hR24 := (h_J2_get_ok (G := G) hP9 g24)
      obtain ⟨hP24, hE24, -⟩ := id hR24
      refine hw_call (rest := []) hR24 (fun hc hk9 => x_callV (as := [(0, x1)]) (rest := []) dX2_gap_24 hc (lw_V q5619 q3183 q3184 q401 q3185) (hkS (D := D9) (show ga_K 4112 = (60, 0) from by decide +kernel) (by decide)) rfl rfl (show _ ∧ _ ∧ _ ∧ _ = some 1 from by decide +kernel) (by decide) (by decide) rfl (Nat.le_of_ble_eq_true rfl) hk9 aw_nox) ?_
      replace h := ga_ck_some h; obtain ⟨hc27_0, h⟩ := h
      refine hw_1 (fun k => x_castL (L := [70]) dX2_gap_27 q6506 sbl_java_lang_Integer (aw_or1 hc27_0) k) ?_
      replace h := ga_ck_some h; obtain ⟨hc30_1, h⟩ := h
      replace h := ga_bind_some h; obtain ⟨r30, D30, g30, h⟩ := h
      have hR30 := (h_J25_intValue_ok (G := G) hP24 g30)
      obtain ⟨hP30, hE30, -⟩ := id hR30
      refine hw_call (rest := []) hR30 (fun hc hk9 => x_callV (as := []) (rest := []) dX2_gap_30 hc (lw_V q6507 q3152 q3153 q476 q3154) hc30_1 rfl rfl (show _ ∧ _ ∧ _ ∧ _ = some 0 from by decide +kernel) (by decide) (by decide) rfl (Nat.le_of_ble_eq_true rfl) hk9 aw_nox) ?_
      obtain ⟨rfl, rfl⟩ := ga_end h
      exact hw_ret hP30 (x_iret dX2_gap_33 rfl rfl trivial hq)
    · rw [if_neg c12] at h
      refine hw_1 (fun k => x_icmp_lt (tgt := 19) dX2_gap_12 (by decide) (fun z => absurd z c12) (fun _ => k)) ?_
      refine hw_1 (fun k => x_iconst dX2_gap_15 (by decide) k) ?_
      refine hw_1 (fun k => x_goto (tgt := 33) dX2_gap_16 (by decide) k) ?_
      obtain ⟨rfl, rfl⟩ := ga_end h
      exact hw_ret hP9 (x_iret dX2_gap_33 rfl rfl trivial hq)
theorem h_X2_rows_ok {G : aw_G} {D D' : ga_D} {r : Int} (hP : h_P D) (h : h_X2_rows D = some (r, D')) : aw_HR yX2_rows cX2_rows 1 (some (.int)) 2 G [(2, 4097)] D (some (0, r)) D' := by
  unfold h_X2_rows at h
  refine hw_body (own := "WasteHouse$TicketChain") (ini := false) (ls := [(0, (2, 4097))]) rfl rfl (fun h => by cases h) (Nat.le_of_ble_eq_true rfl) rfl fun Q hq => ?_
  refine hw_1 (fun k => x_aload_n dX2_rows_0 rfl k) ?_
  refine hw_1 (fun k => x_getf (v := 4098) dX2_rows_1 fl_X2_10 (hkS (D := D) (show ga_K 4097 = (1, 0) from by decide +kernel) (by decide)) (hP.1 4097 0 4098 (by decide +kernel)) k) ?_
  replace h := ga_bind_some h; obtain ⟨r4, D4, g4, h⟩ := h
  have hR4 := (h_X3_count_ok (G := G) hP g4)
  obtain ⟨hP4, hE4, -⟩ := id hR4
  refine hw_call (rest := []) hR4 (fun hc hk9 => x_callV (as := []) (rest := []) dX2_rows_4 hc (lw_V q5656 q5657 q5658 q395 q5659) (hkS (D := D) (show ga_K 4098 = (2, 0) from by decide +kernel) (by decide)) rfl rfl (show _ ∧ _ ∧ _ ∧ _ = some 0 from by decide +kernel) (by decide) (by decide) rfl (Nat.le_of_ble_eq_true rfl) hk9 aw_nox) ?_
  obtain ⟨rfl, rfl⟩ := ga_end h
  exact hw_ret hP4 (x_iret dX2_rows_7 rfl rfl trivial hq)
theorem h_X2_made_ok {G : aw_G} {D D' : ga_D} {r : Int} (hP : h_P D) (h : h_X2_made D = some (r, D')) : aw_HR yX2_made cX2_made 1 (some (.int)) 0 G [(2, 4097)] D (some (0, r)) D' := by
  unfold h_X2_made at h
  refine hw_body (own := "WasteHouse$TicketChain") (ini := false) (ls := [(0, (2, 4097))]) rfl rfl (fun h => by cases h) (Nat.le_of_ble_eq_true rfl) rfl fun Q hq => ?_
  refine hw_1 (fun k => x_aload_n dX2_made_0 rfl k) ?_
  refine hw_1 (fun k => x_getf (v := D 4097 4) dX2_made_1 fl_X2_93 (hkS (D := D) (show ga_K 4097 = (1, 0) from by decide +kernel) (by decide)) rfl k) ?_
  obtain ⟨rfl, rfl⟩ := ga_end h
  exact hw_ret hP (x_iret dX2_made_4 rfl rfl trivial hq)
theorem h_X63_part_ok {G : aw_G} {D D' : ga_D} {r : Int} {x0 x1 x2 : Int} (hP : h_P D) (h : h_X63_part x0 x1 x2 D = some (r, D')) : aw_HR yX63_part cX63_part 4 none 0 G [(2, x0), (0, x1), (1, x2)] D none D' := by
  unfold h_X63_part at h
  refine hw_body (own := "WasteHouse$TicketChain$Ticket") (ini := false) (ls := [(0, (2, x0)), (1, (0, x1)), (2, (1, x2))]) rfl rfl (fun h => by cases h) (Nat.le_of_ble_eq_true rfl) rfl fun Q hq => ?_
  refine hw_1 (fun k => x_aload_n dX63_part_0 rfl k) ?_
  replace h := ga_ck_some h; obtain ⟨hc1_0, h⟩ := h
  refine hw_1 (fun k => x_getf (v := D x0 2) dX63_part_1 fl_X63_15 hc1_0 rfl k) ?_
  refine hw_1 (fun k => x_iload_n dX63_part_4 rfl k) ?_
  refine hw_1 (fun k => x_lload_n dX63_part_5 rfl k) ?_
  replace h := ga_ck_some h; obtain ⟨hc6_1, h⟩ := h
  replace h := ga_ck_some h; obtain ⟨hc6_2, h⟩ := h
  replace h := ga_ck_some h; obtain ⟨hc6_3, h⟩ := h
  replace h := ga_let_some h; obtain ⟨D6, eD6, h⟩ := h
  refine hw_set eD6 (Int.le_trans (by decide) hc6_2) hc6_3.1 (fun k => x_last dX63_part_6 (hk_p hc6_1) hc6_2 hc6_3.1 hc6_3.2 k) ?_
  have hP6 : h_P D6 := hP.set eD6 hc6_2 hc6_3.1 (hPn (hk_p hc6_1) rfl)
  have hE6 : h_E D D6 := h_E_set eD6 hc6_3.1
  obtain ⟨rfl, rfl⟩ := ga_end h
  exact hw_ret hP6 (x_vret dX63_part_7 rfl hq)
theorem h_X2_split_ok {G : aw_G} {D D' : ga_D} {r : Int} {x1 x2 x3 : Int} (hP : h_P D) (h : h_X2_split x1 x2 x3 D = some (r, D')) : aw_HR yX2_split cX2_split 5 (some (.boolean)) 3 G [(2, 4097), (0, x1), (0, x2), (1, x3)] D (some (0, r)) D' := by
  unfold h_X2_split at h
  refine hw_body (own := "WasteHouse$TicketChain") (ini := false) (ls := [(0, (2, 4097)), (1, (0, x1)), (2, (0, x2)), (3, (1, x3))]) rfl rfl (fun h => by cases h) (Nat.le_of_ble_eq_true rfl) rfl fun Q hq => ?_
  refine hw_1 (fun k => x_aload_n dX2_split_0 rfl k) ?_
  refine hw_1 (fun k => x_iload_n dX2_split_1 rfl k) ?_
  replace h := ga_bind_some h; obtain ⟨r2, D2, g2, h⟩ := h
  have hR2 := (h_X2_isTicket_ok (G := G) hP g2)
  obtain ⟨hP2, hE2, -⟩ := id hR2
  refine hw_call (rest := []) hR2 (fun hc hk9 => x_callV (as := [(0, x1)]) (rest := []) dX2_split_2 hc (lw_V q5615 q5617 qs118 q394 q5618) (hkS (D := D) (show ga_K 4097 = (1, 0) from by decide +kernel) (by decide)) rfl rfl (show _ ∧ _ ∧ _ ∧ _ = some 1 from by decide +kernel) (by decide) (by decide) rfl (Nat.le_of_ble_eq_true rfl) hk9 aw_nox) ?_
  by_cases c5 : r2 = 0
  · rw [if_pos c5] at h
    refine hw_1 (fun k => x_if_eq (tgt := 32) dX2_split_5 (by decide) (fun _ => k) (fun z => absurd c5 z)) ?_
    refine hw_1 (fun k => x_iconst dX2_split_32 (by decide) k) ?_
    obtain ⟨rfl, rfl⟩ := ga_end h
    exact hw_ret hP2 (x_iret dX2_split_33 rfl rfl (show (0 : Int) ≤ 0 ∧ (0 : Int) < 2 from by decide) hq)
  · rw [if_neg c5] at h
    refine hw_1 (fun k => x_if_eq (tgt := 32) dX2_split_5 (by decide) (fun z => absurd z c5) (fun _ => k)) ?_
    refine hw_1 (fun k => x_iload_n dX2_split_8 rfl k) ?_
    by_cases c9 : x2 < 0
    · rw [if_pos c9] at h
      refine hw_1 (fun k => x_if_lt (tgt := 32) dX2_split_9 (by decide) (fun _ => k) (fun z => absurd c9 z)) ?_
      refine hw_1 (fun k => x_iconst dX2_split_32 (by decide) k) ?_
      obtain ⟨rfl, rfl⟩ := ga_end h
      exact hw_ret hP2 (x_iret dX2_split_33 rfl rfl (show (0 : Int) ≤ 0 ∧ (0 : Int) < 2 from by decide) hq)
    · rw [if_neg c9] at h
      refine hw_1 (fun k => x_if_lt (tgt := 32) dX2_split_9 (by decide) (fun z => absurd z c9) (fun _ => k)) ?_
      refine hw_1 (fun k => x_iload_n dX2_split_12 rfl k) ?_
      refine hw_1 (fun k => x_bipush dX2_split_13 (by decide) k) ?_
      by_cases c15 : 8 ≤ x2
      · rw [if_pos c15] at h
        refine hw_1 (fun k => x_icmp_ge (tgt := 32) dX2_split_15 (by decide) (fun _ => k) (fun z => absurd c15 z)) ?_
        refine hw_1 (fun k => x_iconst dX2_split_32 (by decide) k) ?_
        obtain ⟨rfl, rfl⟩ := ga_end h
        exact hw_ret hP2 (x_iret dX2_split_33 rfl rfl (show (0 : Int) ≤ 0 ∧ (0 : Int) < 2 from by decide) hq)
      · rw [if_neg c15] at h
        refine hw_1 (fun k => x_icmp_ge (tgt := 32) dX2_split_15 (by decide) (fun z => absurd z c15) (fun _ => k)) ?_
        refine hw_1 (fun k => x_lload_n dX2_split_18 rfl k) ?_
        refine hw_1 (fun k => x_lconst (v := 0) dX2_split_19 rfl k) ?_
        refine hw_1 (fun k => x_lcmp dX2_split_20 rfl k) ?_
        by_cases c21 : x3 < 0
        · rw [if_pos c21] at h
          refine hw_1 (fun k => x_if_lt (tgt := 32) dX2_split_21 (by decide) (fun _ => k) (fun z => absurd (cmi_lt.mpr c21) z)) ?_
          refine hw_1 (fun k => x_iconst dX2_split_32 (by decide) k) ?_
          obtain ⟨rfl, rfl⟩ := ga_end h
          exact hw_ret hP2 (x_iret dX2_split_33 rfl rfl (show (0 : Int) ≤ 0 ∧ (0 : Int) < 2 from by decide) hq)
        · rw [if_neg c21] at h
          refine hw_1 (fun k => x_if_lt (tgt := 32) dX2_split_21 (by decide) (fun z => absurd (cmi_lt.mp z) c21) (fun _ => k)) ?_
          refine hw_1 (fun k => x_lload_n dX2_split_24 rfl k) ?_
          refine hw_1 (fun k => x_ldc2 (z := 1000000) dX2_split_25 q6520 (by decide) k) ?_
          refine hw_1 (fun k => x_lcmp dX2_split_28 rfl k) ?_
          by_cases c29 : x3 ≤ 1000000
          · rw [if_pos c29] at h
            refine hw_1 (fun k => x_if_le (tgt := 34) dX2_split_29 (by decide) (fun _ => k) (fun z => absurd (cmi_le.mpr c29) z)) ?_
            refine hw_1 (fun k => x_aload_n dX2_split_34 rfl k) ?_
            refine hw_1 (fun k => x_getf (v := 4111) dX2_split_35 fl_X2_19 (hkS (D := D2) (show ga_K 4097 = (1, 0) from by decide +kernel) (by decide)) (hP2.1 4097 1 4111 (by decide +kernel)) k) ?_
            refine hw_1 (fun k => x_iload_n dX2_split_38 rfl k) ?_
            replace h := ga_bind_some h; obtain ⟨r39, D39, g39, h⟩ := h
            have hR39 := (h_J2_get_ok (G := G) hP2 g39)
            obtain ⟨hP39, hE39, -⟩ := id hR39
            refine hw_call (rest := []) hR39 (fun hc hk9 => x_callV (as := [(0, x1)]) (rest := []) dX2_split_39 hc (lw_V q5619 q3183 q3184 q401 q3185) (hkS (D := D2) (show ga_K 4111 = (60, 0) from by decide +kernel) (by decide)) rfl rfl (show _ ∧ _ ∧ _ ∧ _ = some 1 from by decide +kernel) (by decide) (by decide) rfl (Nat.le_of_ble_eq_true rfl) hk9 aw_nox) ?_
            replace h := ga_ck_some h; obtain ⟨hc42_0, h⟩ := h
            refine hw_1 (fun k => x_castL (L := [58]) dX2_split_42 q5122 sbl_WasteHouse_TicketChain_Ticket (aw_or1 hc42_0) k) ?_
            refine hw_1 (fun k => x_iload_n dX2_split_45 rfl k) ?_
            refine hw_1 (fun k => x_lload_n dX2_split_46 rfl k) ?_
            replace h := ga_ck_some h; obtain ⟨hc47_1, h⟩ := h
            replace h := ga_bind_some h; obtain ⟨r47, D47, g47, h⟩ := h
            have hR47 := (h_X63_part_ok (G := G) hP39 g47)
            obtain ⟨hP47, hE47, -⟩ := id hR47
            refine hw_call (rest := []) hR47 (fun hc hk9 => x_callV (as := [(0, x2), (1, x3)]) (rest := []) dX2_split_47 hc (lw_V q6521 q6522 q6523 q504 q6524) hc47_1 rfl rfl (show _ ∧ _ ∧ _ ∧ _ = some 2 from by decide +kernel) (by decide) (by decide) rfl (Nat.le_of_ble_eq_true rfl) hk9 aw_nox) ?_
            refine hw_1 (fun k => x_iconst dX2_split_50 (by decide) k) ?_
            obtain ⟨rfl, rfl⟩ := ga_end h
            exact hw_ret hP47 (x_iret dX2_split_51 rfl rfl (show (0 : Int) ≤ 1 ∧ (1 : Int) < 2 from by decide) hq)
          · rw [if_neg c29] at h
            refine hw_1 (fun k => x_if_le (tgt := 34) dX2_split_29 (by decide) (fun z => absurd (cmi_le.mp z) c29) (fun _ => k)) ?_
            refine hw_1 (fun k => x_iconst dX2_split_32 (by decide) k) ?_
            obtain ⟨rfl, rfl⟩ := ga_end h
            exact hw_ret hP2 (x_iret dX2_split_33 rfl rfl (show (0 : Int) ≤ 0 ∧ (0 : Int) < 2 from by decide) hq)
theorem h_X63_form_j27_ok {G : aw_G} {M0 : aw_M} {D' : ga_D} {Q : Option aw_V → aw_M → Prop} {r : Int} (hq : Q (some (2, r)) (hM D')) {k10 : Int → Int → Int → ga_D → ga_S} (hk10 : ∀ (x0 x1 x2 : Int) (D : ga_D), h_P D → k10 x0 x1 x2 D = some (r, D') → aw_HW G "WasteHouse$TicketChain$Ticket" cX63_form (some (.object "java/lang/String")) 3 7 false M0 Q aw_no D' (hn D') (hsl D') 10 [(0, (2, x0)), (1, (2, x1)), (2, (0, x2))] [] D) {x0 x1 x2 : Int} {D : ga_D} (hP : h_P D) (h : h_X63_form_j27 x0 x1 x2 D k10 = some (r, D')) : aw_HW G "WasteHouse$TicketChain$Ticket" cX63_form (some (.object "java/lang/String")) 3 7 false M0 Q aw_no D' (hn D') (hsl D') 27 [(0, (2, x0)), (1, (2, x1)), (2, (0, x2))] [] D := by
  unfold h_X63_form_j27 at h
  refine hw_1 (fun k => x_aload_n dX63_form_27 rfl k) ?_
  refine hw_1 (fun k => x_aload_n dX63_form_28 rfl k) ?_
  refine hw_1 (fun k => x_iload_n dX63_form_29 rfl k) ?_
  replace h := ga_ck_some h; obtain ⟨hc30_0, h⟩ := h
  replace h := ga_bind_some h; obtain ⟨r30, D30, g30, h⟩ := h
  have hR30 := (h_X63_get_ok (G := G) hP g30)
  obtain ⟨hP30, hE30, -⟩ := id hR30
  refine hw_call (rest := [(2, x1)]) hR30 (fun hc hk9 => x_callV (as := [(0, x2)]) (rest := [(2, x1)]) dX63_form_30 hc (lw_V q5628 q5168 q5169 q504 q5170) hc30_0 rfl rfl (show _ ∧ _ ∧ _ ∧ _ = some 1 from by decide +kernel) (by decide) (by decide) rfl (Nat.le_of_ble_eq_true rfl) hk9 aw_nox) ?_
  replace h := ga_ck_some h; obtain ⟨hc33_1, h⟩ := h
  replace h := ga_bind_some h; obtain ⟨r33, D33, g33, h⟩ := h
  have hR33 := (h_J19_append_4_ok (G := G) hP30 g33)
  obtain ⟨hP33, hE33, -⟩ := id hR33
  refine hw_call (rest := []) hR33 (fun hc hk9 => x_callV (as := [(1, r30)]) (rest := []) dX63_form_33 hc (lw_V q6537 q6538 q6539 q470 q6540) hc33_1 rfl rfl (show _ ∧ _ ∧ _ ∧ _ = some 1 from by decide +kernel) (by decide) (by decide) rfl (Nat.le_of_ble_eq_true rfl) hk9 aw_nox) ?_
  refine hw_1 (fun k => x_pop dX63_form_36 rfl k) ?_
  replace h := ga_let_some h; obtain ⟨v37, ev37, h⟩ := h
  refine hw_1 (fun k => x_iinc (ls' := [(2, (0, v37)), (0, (2, x0)), (1, (2, x1))]) dX63_form_37 rfl ev37.symm (by decide) rfl k) ?_
  refine hw_1 (fun k => x_goto (tgt := 10) dX63_form_40 (by decide) k) ?_
  refine hw_locs [1, 2, 0] (ls' := [(0, (2, x0)), (1, (2, x1)), (2, (0, v37))]) rfl ?_
  exact hk10 _ _ _ _ hP33 h
theorem h_X63_form_l10_ok {G : aw_G} {M0 : aw_M} {D' : ga_D} {Q : Option aw_V → aw_M → Prop} {r : Int} (hq : Q (some (2, r)) (hM D')) {k43 : Int → Int → ga_D → ga_S} (hk43 : ∀ (x0 x1 : Int) (D : ga_D), h_P D → k43 x0 x1 D = some (r, D') → aw_HW G "WasteHouse$TicketChain$Ticket" cX63_form (some (.object "java/lang/String")) 3 7 false M0 Q aw_no D' (hn D') (hsl D') 43 [(0, (2, x0)), (1, (2, x1))] [] D) : ∀ {n : Nat} {x0 x1 x2 : Int} {D : ga_D}, h_P D → h_X63_form_l10 n x0 x1 x2 D k43 = some (r, D') → aw_HW G "WasteHouse$TicketChain$Ticket" cX63_form (some (.object "java/lang/String")) 3 7 false M0 Q aw_no D' (hn D') (hsl D') 10 [(0, (2, x0)), (1, (2, x1)), (2, (0, x2))] [] D := by
  intro n
  induction n with
  | zero => intro x0 x1 x2 D hP h; exact absurd (h : (none : ga_S) = some (r, D')) (by intro h; cases h)
  | succ n ih =>
    intro x0 x1 x2 D hP h
    have ih : ∀ (x0 x1 x2 : Int) (D : ga_D), h_P D → h_X63_form_l10 n x0 x1 x2 D k43 = some (r, D') → aw_HW G "WasteHouse$TicketChain$Ticket" cX63_form (some (.object "java/lang/String")) 3 7 false M0 Q aw_no D' (hn D') (hsl D') 10 [(0, (2, x0)), (1, (2, x1)), (2, (0, x2))] [] D := fun x0 x1 x2 D hP h => ih hP h
    replace h : (if 7 < x2 then (k43 x0 x1 D) else (if x2 ≤ 0 then (h_X63_form_j27 x0 x1 x2 D (fun x0 x1 x2 D10 => h_X63_form_l10 n x0 x1 x2 D10 k43)) else (ga_ck (hk D x1 = (68, 0)) (ga_bind (h_J19_append x1 32 D) (fun r23 D23 => h_X63_form_j27 x0 x1 x2 D23 (fun x0 x1 x2 D10 => h_X63_form_l10 n x0 x1 x2 D10 k43))))) : ga_S) = some (r, D') := h
    refine hw_1 (fun k => x_iload_n dX63_form_10 rfl k) ?_
    refine hw_1 (fun k => x_bipush dX63_form_11 (by decide) k) ?_
    by_cases c13 : 7 < x2
    · rw [if_pos c13] at h
      refine hw_1 (fun k => x_icmp_gt (tgt := 43) dX63_form_13 (by decide) (fun _ => k) (fun z => absurd c13 z)) ?_
      refine hw_locs [0, 1] (ls' := [(0, (2, x0)), (1, (2, x1))]) rfl ?_
      exact hk43 _ _ _ hP h
    · rw [if_neg c13] at h
      refine hw_1 (fun k => x_icmp_gt (tgt := 43) dX63_form_13 (by decide) (fun z => absurd z c13) (fun _ => k)) ?_
      refine hw_1 (fun k => x_iload_n dX63_form_16 rfl k) ?_
      by_cases c17 : x2 ≤ 0
      · rw [if_pos c17] at h
        refine hw_1 (fun k => x_if_le (tgt := 27) dX63_form_17 (by decide) (fun _ => k) (fun z => absurd c17 z)) ?_
        refine h_X63_form_j27_ok hq (fun x0 x1 x2 D10 hP h => ?_) hP h
        · exact ih _ _ _ _ hP h
      · rw [if_neg c17] at h
        refine hw_1 (fun k => x_if_le (tgt := 27) dX63_form_17 (by decide) (fun z => absurd z c17) (fun _ => k)) ?_
        refine hw_1 (fun k => x_aload_n dX63_form_20 rfl k) ?_
        refine hw_1 (fun k => x_bipush dX63_form_21 (by decide) k) ?_
        replace h := ga_ck_some h; obtain ⟨hc23_0, h⟩ := h
        replace h := ga_bind_some h; obtain ⟨r23, D23, g23, h⟩ := h
        have hR23 := (h_J19_append_ok (G := G) hP g23)
        obtain ⟨hP23, hE23, -⟩ := id hR23
        refine hw_call (rest := []) hR23 (fun hc hk9 => x_callV (as := [(0, 32)]) (rest := []) dX63_form_23 hc (lw_V q6536 q2655 q2656 q470 q2657) hc23_0 rfl rfl (show _ ∧ _ ∧ _ ∧ _ = some 1 from by decide +kernel) (by decide) (by decide) rfl (Nat.le_of_ble_eq_true rfl) hk9 aw_nox) ?_
        refine hw_1 (fun k => x_pop dX63_form_26 rfl k) ?_
        refine h_X63_form_j27_ok hq (fun x0 x1 x2 D10 hP h => ?_) hP23 h
        · exact ih _ _ _ _ hP h
theorem h_X63_form_j67_ok {G : aw_G} {M0 : aw_M} {D' : ga_D} {Q : Option aw_V → aw_M → Prop} {r : Int} (hq : Q (some (2, r)) (hM D')) {x1 : Int} {D : ga_D} (hP : h_P D) (h : h_X63_form_j67 x1 D = some (r, D')) : aw_HW G "WasteHouse$TicketChain$Ticket" cX63_form (some (.object "java/lang/String")) 3 7 false M0 Q aw_no D' (hn D') (hsl D') 67 [(1, (2, x1))] [] D := by
  unfold h_X63_form_j67 at h
  refine hw_1 (fun k => x_aload_n dX63_form_67 rfl k) ?_
  replace h := ga_ck_some h; obtain ⟨hc68_0, h⟩ := h
  replace h := ga_bind_some h; obtain ⟨r68, D68, g68, h⟩ := h
  have hR68 := (h_J19_toString_ok (G := G) hP g68)
  obtain ⟨hP68, hE68, -⟩ := id hR68
  refine hw_call (rest := []) hR68 (fun hc hk9 => x_callV (as := []) (rest := []) dX63_form_68 hc (lw_V q6566 q2733 q2734 q470 q2735) hc68_0 rfl rfl (show _ ∧ _ ∧ _ ∧ _ = some 0 from by decide +kernel) (by decide) (by decide) rfl (Nat.le_of_ble_eq_true rfl) hk9 aw_nox) ?_
  obtain ⟨rfl, rfl⟩ := ga_end h
  exact hw_ret hP68 (x_aret dX63_form_71 rfl (by first | exact Or.inl ⟨_, rfl⟩ | exact Or.inr ⟨_, rfl⟩) hq)
theorem h_X63_form_ok {G : aw_G} {D D' : ga_D} {r : Int} {x0 : Int} (hP : h_P D) (h : h_X63_form x0 D = some (r, D')) : aw_HR yX63_form cX63_form 3 (some (.object "java/lang/String")) 7 G [(2, x0)] D (some (2, r)) D' := by
  unfold h_X63_form at h
  refine hw_body (own := "WasteHouse$TicketChain$Ticket") (ini := false) (ls := [(0, (2, x0))]) rfl rfl (fun h => by cases h) (Nat.le_of_ble_eq_true rfl) rfl fun Q hq => ?_
  replace h := ga_let_some h; obtain ⟨z0, ez0, h⟩ := h
  replace h := ga_let_some h; obtain ⟨D0, eD0, h⟩ := h
  refine hy_new hP ez0 eD0 rfl rfl dX63_form_0 rfl rfl q6534 q2624 q470 (fun hP0 hE0 hz0 hg0 => ?_)
  refine hw_1 (fun k => x_dup dX63_form_3 rfl k) ?_
  replace h := ga_bind_some h; obtain ⟨r4, D4, g4, h⟩ := h
  have hR4 := (h_J19_init_ok (G := G) (hk_pos1 hz0 (by decide)) hP0 g4)
  obtain ⟨hP4, hE4, -⟩ := id hR4
  refine hw_call (rest := [(2, z0)]) hR4 (fun hc hk9 => x_callI (as := []) (rest := [(2, z0)]) dX63_form_4 hc (lw_meth q2627) q470 q6535 q2626 hz0 rfl rfl (show _ ∧ _ ∧ _ = some 0 from by decide +kernel) (by decide) (by decide) rfl (Nat.le_of_ble_eq_true rfl) hk9 aw_nox) ?_
  refine hw_1 (fun k => x_astore_n (ls' := [(1, (2, z0)), (0, (2, x0))]) dX63_form_7 (by decide) rfl k) ?_
  refine hw_1 (fun k => x_iconst dX63_form_8 (by decide) k) ?_
  refine hw_1 (fun k => x_istore_n (ls' := [(2, (0, 0)), (1, (2, z0)), (0, (2, x0))]) dX63_form_9 (by decide) rfl k) ?_
  refine hw_locs [2, 1, 0] (ls' := [(0, (2, x0)), (1, (2, z0)), (2, (0, 0))]) rfl ?_
  refine h_X63_form_l10_ok hq (fun x0 x1 D43 hP h => ?_) hP4 h
  · refine hw_1 (fun k => x_aload_n dX63_form_43 rfl k) ?_
    replace h := ga_ck_some h; obtain ⟨hc44_0, h⟩ := h
    replace h := ga_bind_some h; obtain ⟨r44, D44, g44, h⟩ := h
    have hR44 := (h_X63_isVoid_ok (G := G) hP g44)
    obtain ⟨hP44, hE44, -⟩ := id hR44
    refine hw_call (rest := []) hR44 (fun hc hk9 => x_callV (as := []) (rest := []) dX63_form_44 hc (lw_V q5624 q5625 q5626 q504 q5627) hc44_0 rfl rfl (show _ ∧ _ ∧ _ ∧ _ = some 0 from by decide +kernel) (by decide) (by decide) rfl (Nat.le_of_ble_eq_true rfl) hk9 aw_nox) ?_
    by_cases c47 : r44 = 0
    · rw [if_pos c47] at h
      refine hw_1 (fun k => x_if_eq (tgt := 67) dX63_form_47 (by decide) (fun _ => k) (fun z => absurd c47 z)) ?_
      refine hw_locs [1] (ls' := [(1, (2, x1))]) rfl ?_
      refine h_X63_form_j67_ok hq hP44 h
    · rw [if_neg c47] at h
      refine hw_1 (fun k => x_if_eq (tgt := 67) dX63_form_47 (by decide) (fun z => absurd z c47) (fun _ => k)) ?_
      refine hw_1 (fun k => x_aload_n dX63_form_50 rfl k) ?_
      refine hw_1 (fun k => x_ldcS (z := 1006) dX63_form_51 q6564 (by decide +kernel) k) ?_
      replace h := ga_ck_some h; obtain ⟨hc53_0, h⟩ := h
      replace h := ga_bind_some h; obtain ⟨r53, D53, g53, h⟩ := h
      have hR53 := (h_J19_append_3_ok (G := G) hP44 g53)
      obtain ⟨hP53, hE53, -⟩ := id hR53
      refine hw_call (rest := []) hR53 (fun hc hk9 => x_callV (as := [(2, 1006)]) (rest := []) dX63_form_53 hc (lw_V q6565 q2848 q2849 q470 q2850) hc53_0 rfl rfl (show _ ∧ _ ∧ _ ∧ _ = some 1 from by decide +kernel) (by decide) (by decide) rfl (Nat.le_of_ble_eq_true rfl) hk9 aw_nox) ?_
      refine hw_1 (fun k => x_aload_n dX63_form_56 rfl k) ?_
      refine hw_1 (fun k => x_getf (v := D53 x0 1) dX63_form_57 fl_X63_9 (h_kx hE53 (h_kx hE44 hc44_0 (by decide)) (by decide)) rfl k) ?_
      refine hw_1 (fun k => x_bipush dX63_form_60 (by decide) k) ?_
      replace h := ga_ck_some h; obtain ⟨hc62_1, h⟩ := h
      replace h := ga_ck_some h; obtain ⟨hc62_2, h⟩ := h
      refine hw_1 (fun k => x_lald (v := D53 (D53 x0 1) 8) dX63_form_62 (hk_p hc62_1) hc62_2.1 hc62_2.2 rfl k) ?_
      replace h := ga_ck_some h; obtain ⟨hc63_3, h⟩ := h
      replace h := ga_bind_some h; obtain ⟨r63, D63, g63, h⟩ := h
      have hR63 := (h_J19_append_4_ok (G := G) hP53 g63)
      obtain ⟨hP63, hE63, -⟩ := id hR63
      refine hw_call (rest := []) hR63 (fun hc hk9 => x_callV (as := [(1, D53 (D53 x0 1) 8)]) (rest := []) dX63_form_63 hc (lw_V q6537 q6538 q6539 q470 q6540) hc63_3 rfl rfl (show _ ∧ _ ∧ _ ∧ _ = some 1 from by decide +kernel) (by decide) (by decide) rfl (Nat.le_of_ble_eq_true rfl) hk9 aw_nox) ?_
      refine hw_1 (fun k => x_pop dX63_form_66 rfl k) ?_
      refine hw_locs [1] (ls' := [(1, (2, x1))]) rfl ?_
      refine h_X63_form_j67_ok hq hP63 h
theorem h_X2_print_j41_ok {G : aw_G} {M0 : aw_M} {D' : ga_D} {Q : Option aw_V → aw_M → Prop} {r : Int} (hq : Q (some (0, r)) (hM D')) {x2 : Int} {D : ga_D} (hP : h_P D) (h : h_X2_print_j41 x2 D = some (r, D')) : aw_HW G "WasteHouse$TicketChain" cX2_print (some (.int)) 3 9 false M0 Q aw_no D' (hn D') (hsl D') 41 [(0, (2, 4097)), (2, (0, x2))] [] D := by
  unfold h_X2_print_j41 at h
  refine hw_1 (fun k => x_iload_n dX2_print_41 rfl k) ?_
  by_cases c42 : x2 < 0
  · rw [if_pos c42] at h
    refine hw_1 (fun k => x_if_lt (tgt := 56) dX2_print_42 (by decide) (fun _ => k) (fun z => absurd c42 z)) ?_
    refine hw_1 (fun k => x_iconst dX2_print_56 (by decide) k) ?_
    refine hw_1 (fun k => x_goto (tgt := 68) dX2_print_57 (by decide) k) ?_
    obtain ⟨rfl, rfl⟩ := ga_end h
    exact hw_ret hP (x_iret dX2_print_68 rfl rfl trivial hq)
  · rw [if_neg c42] at h
    refine hw_1 (fun k => x_if_lt (tgt := 56) dX2_print_42 (by decide) (fun z => absurd z c42) (fun _ => k)) ?_
    refine hw_1 (fun k => x_iload_n dX2_print_45 rfl k) ?_
    refine hw_1 (fun k => x_aload_n dX2_print_46 rfl k) ?_
    refine hw_1 (fun k => x_getf (v := D 4097 5) dX2_print_47 fl_X2_35 (hkS (D := D) (show ga_K 4097 = (1, 0) from by decide +kernel) (by decide)) rfl k) ?_
    replace h := ga_ck_some h; obtain ⟨hc50_0, h⟩ := h
    replace h := ga_bind_some h; obtain ⟨r50, D50, g50, h⟩ := h
    have hR50 := (h_J20_length_ok (G := G) hP g50)
    obtain ⟨hP50, hE50, -⟩ := id hR50
    refine hw_call (rest := [(0, x2)]) hR50 (fun hc hk9 => x_callV (as := []) (rest := [(0, x2)]) dX2_print_50 hc (lw_V q6567 q2862 q2863 q471 q2864) hc50_0 rfl rfl (show _ ∧ _ ∧ _ ∧ _ = some 0 from by decide +kernel) (by decide) (by decide) rfl (Nat.le_of_ble_eq_true rfl) hk9 aw_nox) ?_
    by_cases c53 : x2 < r50
    · rw [if_pos c53] at h
      refine hw_1 (fun k => x_icmp_lt (tgt := 60) dX2_print_53 (by decide) (fun _ => k) (fun z => absurd c53 z)) ?_
      refine hw_1 (fun k => x_aload_n dX2_print_60 rfl k) ?_
      refine hw_1 (fun k => x_getf (v := D50 4097 5) dX2_print_61 fl_X2_35 (hkS (D := D50) (show ga_K 4097 = (1, 0) from by decide +kernel) (by decide)) rfl k) ?_
      refine hw_1 (fun k => x_iload_n dX2_print_64 rfl k) ?_
      replace h := ga_ck_some h; obtain ⟨hc65_0, h⟩ := h
      replace h := ga_bind_some h; obtain ⟨r65, D65, g65, h⟩ := h
      have hR65 := (h_J20_charAt_ok (G := G) hP50 g65)
      obtain ⟨hP65, hE65, -⟩ := id hR65
      refine hw_call (rest := []) hR65 (fun hc hk9 => x_callV (as := [(0, x2)]) (rest := []) dX2_print_65 hc (lw_V q6568 q3211 q3212 q471 q3213) hc65_0 rfl rfl (show _ ∧ _ ∧ _ ∧ _ = some 1 from by decide +kernel) (by decide) (by decide) rfl (Nat.le_of_ble_eq_true rfl) hk9 aw_nox) ?_
      obtain ⟨rfl, rfl⟩ := ga_end h
      exact hw_ret hP65 (x_iret dX2_print_68 rfl rfl trivial hq)
    · rw [if_neg c53] at h
      refine hw_1 (fun k => x_icmp_lt (tgt := 60) dX2_print_53 (by decide) (fun z => absurd z c53) (fun _ => k)) ?_
      refine hw_1 (fun k => x_iconst dX2_print_56 (by decide) k) ?_
      refine hw_1 (fun k => x_goto (tgt := 68) dX2_print_57 (by decide) k) ?_
      obtain ⟨rfl, rfl⟩ := ga_end h
      exact hw_ret hP50 (x_iret dX2_print_68 rfl rfl trivial hq)
theorem h_X2_print_ok {G : aw_G} {D D' : ga_D} {r : Int} {x1 x2 : Int} (hP : h_P D) (h : h_X2_print x1 x2 D = some (r, D')) : aw_HR yX2_print cX2_print 3 (some (.int)) 9 G [(2, 4097), (0, x1), (0, x2)] D (some (0, r)) D' := by
  unfold h_X2_print at h
  refine hw_body (own := "WasteHouse$TicketChain") (ini := false) (ls := [(0, (2, 4097)), (1, (0, x1)), (2, (0, x2))]) rfl rfl (fun h => by cases h) (Nat.le_of_ble_eq_true rfl) rfl fun Q hq => ?_
  refine hw_1 (fun k => x_aload_n dX2_print_0 rfl k) ?_
  refine hw_1 (fun k => x_iload_n dX2_print_1 rfl k) ?_
  replace h := ga_bind_some h; obtain ⟨r2, D2, g2, h⟩ := h
  have hR2 := (h_X2_isTicket_ok (G := G) hP g2)
  obtain ⟨hP2, hE2, -⟩ := id hR2
  refine hw_call (rest := []) hR2 (fun hc hk9 => x_callV (as := [(0, x1)]) (rest := []) dX2_print_2 hc (lw_V q5615 q5617 qs118 q394 q5618) (hkS (D := D) (show ga_K 4097 = (1, 0) from by decide +kernel) (by decide)) rfl rfl (show _ ∧ _ ∧ _ ∧ _ = some 1 from by decide +kernel) (by decide) (by decide) rfl (Nat.le_of_ble_eq_true rfl) hk9 aw_nox) ?_
  by_cases c5 : r2 ≠ 0
  · rw [if_pos c5] at h
    refine hw_1 (fun k => x_if_ne (tgt := 10) dX2_print_5 (by decide) (fun _ => k) (fun z => absurd c5 z)) ?_
    refine hw_1 (fun k => x_aload_n dX2_print_10 rfl k) ?_
    refine hw_1 (fun k => x_getf (v := D2 4097 6) dX2_print_11 fl_X2_39 (hkS (D := D2) (show ga_K 4097 = (1, 0) from by decide +kernel) (by decide)) rfl k) ?_
    refine hw_1 (fun k => x_iload_n dX2_print_14 rfl k) ?_
    by_cases c15 : D2 4097 6 = x1
    · rw [if_pos c15] at h
      refine hw_1 (fun k => x_icmp_eq (tgt := 41) dX2_print_15 (by decide) (fun _ => k) (fun z => absurd c15 z)) ?_
      refine hw_locs [0, 2] (ls' := [(0, (2, 4097)), (2, (0, x2))]) rfl ?_
      refine h_X2_print_j41_ok hq hP2 h
    · rw [if_neg c15] at h
      refine hw_1 (fun k => x_icmp_eq (tgt := 41) dX2_print_15 (by decide) (fun z => absurd z c15) (fun _ => k)) ?_
      refine hw_1 (fun k => x_aload_n dX2_print_18 rfl k) ?_
      refine hw_1 (fun k => x_aload_n dX2_print_19 rfl k) ?_
      refine hw_1 (fun k => x_getf (v := 4111) dX2_print_20 fl_X2_19 (hkS (D := D2) (show ga_K 4097 = (1, 0) from by decide +kernel) (by decide)) (hP2.1 4097 1 4111 (by decide +kernel)) k) ?_
      refine hw_1 (fun k => x_iload_n dX2_print_23 rfl k) ?_
      replace h := ga_bind_some h; obtain ⟨r24, D24, g24, h⟩ := h
      have hR24 := (h_J2_get_ok (G := G) hP2 g24)
      obtain ⟨hP24, hE24, -⟩ := id hR24
      refine hw_call (rest := [(2, 4097)]) hR24 (fun hc hk9 => x_callV (as := [(0, x1)]) (rest := [(2, 4097)]) dX2_print_24 hc (lw_V q5619 q3183 q3184 q401 q3185) (hkS (D := D2) (show ga_K 4111 = (60, 0) from by decide +kernel) (by decide)) rfl rfl (show _ ∧ _ ∧ _ ∧ _ = some 1 from by decide +kernel) (by decide) (by decide) rfl (Nat.le_of_ble_eq_true rfl) hk9 aw_nox) ?_
      replace h := ga_ck_some h; obtain ⟨hc27_0, h⟩ := h
      refine hw_1 (fun k => x_castL (L := [58]) dX2_print_27 q5122 sbl_WasteHouse_TicketChain_Ticket (aw_or1 hc27_0) k) ?_
      replace h := ga_ck_some h; obtain ⟨hc30_1, h⟩ := h
      replace h := ga_bind_some h; obtain ⟨r30, D30, g30, h⟩ := h
      have hR30 := (h_X63_form_ok (G := G) hP24 g30)
      obtain ⟨hP30, hE30, -⟩ := id hR30
      refine hw_call (rest := [(2, 4097)]) hR30 (fun hc hk9 => x_callV (as := []) (rest := [(2, 4097)]) dX2_print_30 hc (lw_V q6530 q6531 q6532 q504 q6533) hc30_1 rfl rfl (show _ ∧ _ ∧ _ ∧ _ = some 0 from by decide +kernel) (by decide) (by decide) rfl (Nat.le_of_ble_eq_true rfl) hk9 aw_nox) ?_
      replace h := ga_let_some h; obtain ⟨D33, eD33, h⟩ := h
      refine hw_set eD33 (by decide) (by decide) (fun k => x_putf dX2_print_33 fl_X2_35 rfl (hkS (D := D30) (show ga_K 4097 = (1, 0) from by decide +kernel) (by decide)) (by decide) trivial k) ?_
      have hP33 : h_P D33 := hP30.set eD33 (by decide) (by decide) (hPn (hkS (D := D30) (show ga_K 4097 = (1, 0) from by decide +kernel) (by decide)) rfl)
      have hE33 : h_E D30 D33 := h_E_set eD33 (by decide)
      refine hw_1 (fun k => x_aload_n dX2_print_36 rfl k) ?_
      refine hw_1 (fun k => x_iload_n dX2_print_37 rfl k) ?_
      replace h := ga_let_some h; obtain ⟨D38, eD38, h⟩ := h
      refine hw_set eD38 (by decide) (by decide) (fun k => x_putf dX2_print_38 fl_X2_39 rfl (hkS (D := D33) (show ga_K 4097 = (1, 0) from by decide +kernel) (by decide)) (by decide) trivial k) ?_
      have hP38 : h_P D38 := hP33.set eD38 (by decide) (by decide) (hPn (hkS (D := D33) (show ga_K 4097 = (1, 0) from by decide +kernel) (by decide)) rfl)
      have hE38 : h_E D33 D38 := h_E_set eD38 (by decide)
      refine hw_locs [0, 2] (ls' := [(0, (2, 4097)), (2, (0, x2))]) rfl ?_
      refine h_X2_print_j41_ok hq hP38 h
  · rw [if_neg c5] at h
    refine hw_1 (fun k => x_if_ne (tgt := 10) dX2_print_5 (by decide) (fun z => absurd z c5) (fun _ => k)) ?_
    refine hw_1 (fun k => x_iconst dX2_print_8 (by decide) k) ?_
    obtain ⟨rfl, rfl⟩ := ga_end h
    exact hw_ret hP2 (x_iret dX2_print_9 rfl rfl trivial hq)
theorem h_X3_isRow_ok {G : aw_G} {D D' : ga_D} {r : Int} {x1 : Int} (hP : h_P D) (h : h_X3_isRow x1 D = some (r, D')) : aw_HR yX3_isRow cX3_isRow 2 (some (.boolean)) 1 G [(2, 4098), (0, x1)] D (some (0, r)) D' := by
  unfold h_X3_isRow at h
  refine hw_body (own := "WasteHouse$TicketChain$Chain") (ini := false) (ls := [(0, (2, 4098)), (1, (0, x1))]) rfl rfl (fun h => by cases h) (Nat.le_of_ble_eq_true rfl) rfl fun Q hq => ?_
  refine hw_1 (fun k => x_iload_n dX3_isRow_0 rfl k) ?_
  by_cases c1 : x1 < 0
  · rw [if_pos c1] at h
    refine hw_1 (fun k => x_if_lt (tgt := 19) dX3_isRow_1 (by decide) (fun _ => k) (fun z => absurd c1 z)) ?_
    refine hw_1 (fun k => x_iconst dX3_isRow_19 (by decide) k) ?_
    obtain ⟨rfl, rfl⟩ := ga_end h
    exact hw_ret hP (x_iret dX3_isRow_20 rfl rfl (show (0 : Int) ≤ 0 ∧ (0 : Int) < 2 from by decide) hq)
  · rw [if_neg c1] at h
    refine hw_1 (fun k => x_if_lt (tgt := 19) dX3_isRow_1 (by decide) (fun z => absurd z c1) (fun _ => k)) ?_
    refine hw_1 (fun k => x_iload_n dX3_isRow_4 rfl k) ?_
    refine hw_1 (fun k => x_aload_n dX3_isRow_5 rfl k) ?_
    refine hw_1 (fun k => x_getf (v := 4107) dX3_isRow_6 fl_X3_33 (hkS (D := D) (show ga_K 4098 = (2, 0) from by decide +kernel) (by decide)) (hP.1 4098 2 4107 (by decide +kernel)) k) ?_
    replace h := ga_bind_some h; obtain ⟨r9, D9, g9, h⟩ := h
    have hR9 := (h_J2_size_ok (G := G) hP g9)
    obtain ⟨hP9, hE9, -⟩ := id hR9
    refine hw_call (rest := [(0, x1)]) hR9 (fun hc hk9 => x_callV (as := []) (rest := [(0, x1)]) dX3_isRow_9 hc (lw_V q5118 q3530 q3531 q401 q3532) (hkS (D := D) (show ga_K 4107 = (60, 0) from by decide +kernel) (by decide)) rfl rfl (show _ ∧ _ ∧ _ ∧ _ = some 0 from by decide +kernel) (by decide) (by decide) rfl (Nat.le_of_ble_eq_true rfl) hk9 aw_nox) ?_
    by_cases c12 : r9 ≤ x1
    · rw [if_pos c12] at h
      refine hw_1 (fun k => x_icmp_ge (tgt := 19) dX3_isRow_12 (by decide) (fun _ => k) (fun z => absurd c12 z)) ?_
      refine hw_1 (fun k => x_iconst dX3_isRow_19 (by decide) k) ?_
      obtain ⟨rfl, rfl⟩ := ga_end h
      exact hw_ret hP9 (x_iret dX3_isRow_20 rfl rfl (show (0 : Int) ≤ 0 ∧ (0 : Int) < 2 from by decide) hq)
    · rw [if_neg c12] at h
      refine hw_1 (fun k => x_icmp_ge (tgt := 19) dX3_isRow_12 (by decide) (fun z => absurd z c12) (fun _ => k)) ?_
      refine hw_1 (fun k => x_iconst dX3_isRow_15 (by decide) k) ?_
      refine hw_1 (fun k => x_goto (tgt := 20) dX3_isRow_16 (by decide) k) ?_
      obtain ⟨rfl, rfl⟩ := ga_end h
      exact hw_ret hP9 (x_iret dX3_isRow_20 rfl rfl (show (0 : Int) ≤ 1 ∧ (1 : Int) < 2 from by decide) hq)
theorem h_X3_row_ok {G : aw_G} {D D' : ga_D} {r : Int} {x1 : Int} (hP : h_P D) (h : h_X3_row x1 D = some (r, D')) : aw_HR yX3_row cX3_row 2 (some (.array .byte)) 3 G [(2, 4098), (0, x1)] D (some (2, r)) D' := by
  unfold h_X3_row at h
  refine hw_body (own := "WasteHouse$TicketChain$Chain") (ini := false) (ls := [(0, (2, 4098)), (1, (0, x1))]) rfl rfl (fun h => by cases h) (Nat.le_of_ble_eq_true rfl) rfl fun Q hq => ?_
  refine hw_1 (fun k => x_aload_n dX3_row_0 rfl k) ?_
  refine hw_1 (fun k => x_getf (v := 4107) dX3_row_1 fl_X3_33 (hkS (D := D) (show ga_K 4098 = (2, 0) from by decide +kernel) (by decide)) (hP.1 4098 2 4107 (by decide +kernel)) k) ?_
  refine hw_1 (fun k => x_iload_n dX3_row_4 rfl k) ?_
  replace h := ga_bind_some h; obtain ⟨r5, D5, g5, h⟩ := h
  have hR5 := (h_J2_get_ok (G := G) hP g5)
  obtain ⟨hP5, hE5, -⟩ := id hR5
  refine hw_call (rest := []) hR5 (fun hc hk9 => x_callV (as := [(0, x1)]) (rest := []) dX3_row_5 hc (lw_V q5180 q3183 q3184 q401 q3185) (hkS (D := D) (show ga_K 4107 = (60, 0) from by decide +kernel) (by decide)) rfl rfl (show _ ∧ _ ∧ _ ∧ _ = some 1 from by decide +kernel) (by decide) (by decide) rfl (Nat.le_of_ble_eq_true rfl) hk9 aw_nox) ?_
  replace h := ga_ck_some h; obtain ⟨hc8_0, h⟩ := h
  refine hw_1 (fun k => x_castA (t := 2) dX3_row_8 q5181 rfl rfl (hc8_0.imp id hk_p) k) ?_
  obtain ⟨rfl, rfl⟩ := ga_end h
  exact hw_ret hP5 (x_aret dX3_row_11 rfl (by first | exact Or.inl ⟨_, rfl⟩ | exact Or.inr ⟨_, rfl⟩) hq)
theorem h_X2_poke_ok {G : aw_G} {D D' : ga_D} {r : Int} {x1 x2 x3 : Int} (hP : h_P D) (h : h_X2_poke x1 x2 x3 D = some (r, D')) : aw_HR yX2_poke cX2_poke 4 (some (.boolean)) 4 G [(2, 4097), (0, x1), (0, x2), (0, x3)] D (some (0, r)) D' := by
  unfold h_X2_poke at h
  refine hw_body (own := "WasteHouse$TicketChain") (ini := false) (ls := [(0, (2, 4097)), (1, (0, x1)), (2, (0, x2)), (3, (0, x3))]) rfl rfl (fun h => by cases h) (Nat.le_of_ble_eq_true rfl) rfl fun Q hq => ?_
  refine hw_1 (fun k => x_aload_n dX2_poke_0 rfl k) ?_
  refine hw_1 (fun k => x_getf (v := 4098) dX2_poke_1 fl_X2_10 (hkS (D := D) (show ga_K 4097 = (1, 0) from by decide +kernel) (by decide)) (hP.1 4097 0 4098 (by decide +kernel)) k) ?_
  refine hw_1 (fun k => x_iload_n dX2_poke_4 rfl k) ?_
  replace h := ga_bind_some h; obtain ⟨r5, D5, g5, h⟩ := h
  have hR5 := (h_X3_isRow_ok (G := G) hP g5)
  obtain ⟨hP5, hE5, -⟩ := id hR5
  refine hw_call (rest := []) hR5 (fun hc hk9 => x_callV (as := [(0, x1)]) (rest := []) dX2_poke_5 hc (lw_V q6573 q6574 q6575 q395 q6576) (hkS (D := D) (show ga_K 4098 = (2, 0) from by decide +kernel) (by decide)) rfl rfl (show _ ∧ _ ∧ _ ∧ _ = some 1 from by decide +kernel) (by decide) (by decide) rfl (Nat.le_of_ble_eq_true rfl) hk9 aw_nox) ?_
  by_cases c8 : r5 = 0
  · rw [if_pos c8] at h
    refine hw_1 (fun k => x_if_eq (tgt := 33) dX2_poke_8 (by decide) (fun _ => k) (fun z => absurd c8 z)) ?_
    refine hw_1 (fun k => x_iconst dX2_poke_33 (by decide) k) ?_
    obtain ⟨rfl, rfl⟩ := ga_end h
    exact hw_ret hP5 (x_iret dX2_poke_34 rfl rfl (show (0 : Int) ≤ 0 ∧ (0 : Int) < 2 from by decide) hq)
  · rw [if_neg c8] at h
    refine hw_1 (fun k => x_if_eq (tgt := 33) dX2_poke_8 (by decide) (fun z => absurd z c8) (fun _ => k)) ?_
    refine hw_1 (fun k => x_iload_n dX2_poke_11 rfl k) ?_
    by_cases c12 : x2 < 0
    · rw [if_pos c12] at h
      refine hw_1 (fun k => x_if_lt (tgt := 33) dX2_poke_12 (by decide) (fun _ => k) (fun z => absurd c12 z)) ?_
      refine hw_1 (fun k => x_iconst dX2_poke_33 (by decide) k) ?_
      obtain ⟨rfl, rfl⟩ := ga_end h
      exact hw_ret hP5 (x_iret dX2_poke_34 rfl rfl (show (0 : Int) ≤ 0 ∧ (0 : Int) < 2 from by decide) hq)
    · rw [if_neg c12] at h
      refine hw_1 (fun k => x_if_lt (tgt := 33) dX2_poke_12 (by decide) (fun z => absurd z c12) (fun _ => k)) ?_
      refine hw_1 (fun k => x_iload_n dX2_poke_15 rfl k) ?_
      refine hw_1 (fun k => x_bipush dX2_poke_16 (by decide) k) ?_
      by_cases c18 : 73 ≤ x2
      · rw [if_pos c18] at h
        refine hw_1 (fun k => x_icmp_ge (tgt := 33) dX2_poke_18 (by decide) (fun _ => k) (fun z => absurd c18 z)) ?_
        refine hw_1 (fun k => x_iconst dX2_poke_33 (by decide) k) ?_
        obtain ⟨rfl, rfl⟩ := ga_end h
        exact hw_ret hP5 (x_iret dX2_poke_34 rfl rfl (show (0 : Int) ≤ 0 ∧ (0 : Int) < 2 from by decide) hq)
      · rw [if_neg c18] at h
        refine hw_1 (fun k => x_icmp_ge (tgt := 33) dX2_poke_18 (by decide) (fun z => absurd z c18) (fun _ => k)) ?_
        refine hw_1 (fun k => x_iload_n dX2_poke_21 rfl k) ?_
        refine hw_1 (fun k => x_iconst dX2_poke_22 (by decide) k) ?_
        by_cases c23 : x3 < 1
        · rw [if_pos c23] at h
          refine hw_1 (fun k => x_icmp_lt (tgt := 33) dX2_poke_23 (by decide) (fun _ => k) (fun z => absurd c23 z)) ?_
          refine hw_1 (fun k => x_iconst dX2_poke_33 (by decide) k) ?_
          obtain ⟨rfl, rfl⟩ := ga_end h
          exact hw_ret hP5 (x_iret dX2_poke_34 rfl rfl (show (0 : Int) ≤ 0 ∧ (0 : Int) < 2 from by decide) hq)
        · rw [if_neg c23] at h
          refine hw_1 (fun k => x_icmp_lt (tgt := 33) dX2_poke_23 (by decide) (fun z => absurd z c23) (fun _ => k)) ?_
          refine hw_1 (fun k => x_iload_n dX2_poke_26 rfl k) ?_
          refine hw_1 (fun k => x_sipush dX2_poke_27 (by decide) k) ?_
          by_cases c30 : x3 ≤ 255
          · rw [if_pos c30] at h
            refine hw_1 (fun k => x_icmp_le (tgt := 35) dX2_poke_30 (by decide) (fun _ => k) (fun z => absurd c30 z)) ?_
            refine hw_1 (fun k => x_aload_n dX2_poke_35 rfl k) ?_
            refine hw_1 (fun k => x_getf (v := 4098) dX2_poke_36 fl_X2_10 (hkS (D := D5) (show ga_K 4097 = (1, 0) from by decide +kernel) (by decide)) (hP5.1 4097 0 4098 (by decide +kernel)) k) ?_
            refine hw_1 (fun k => x_iload_n dX2_poke_39 rfl k) ?_
            replace h := ga_bind_some h; obtain ⟨r40, D40, g40, h⟩ := h
            have hR40 := (h_X3_row_ok (G := G) hP5 g40)
            obtain ⟨hP40, hE40, -⟩ := id hR40
            refine hw_call (rest := []) hR40 (fun hc hk9 => x_callV (as := [(0, x1)]) (rest := []) dX2_poke_40 hc (lw_V q6577 q6578 q6579 q395 q6580) (hkS (D := D5) (show ga_K 4098 = (2, 0) from by decide +kernel) (by decide)) rfl rfl (show _ ∧ _ ∧ _ ∧ _ = some 1 from by decide +kernel) (by decide) (by decide) rfl (Nat.le_of_ble_eq_true rfl) hk9 aw_nox) ?_
            refine hw_1 (fun k => x_iload_n dX2_poke_43 rfl k) ?_
            refine hw_1 (fun k => x_dup2 dX2_poke_44 rfl rfl k) ?_
            replace h := ga_ck_some h; obtain ⟨hc45_0, h⟩ := h
            replace h := ga_ck_some h; obtain ⟨hc45_1, h⟩ := h
            refine hw_1 (fun k => x_bald (v := D40 r40 x2) dX2_poke_45 (hk_p hc45_0) hc45_1.1 hc45_1.2 rfl k) ?_
            refine hw_1 (fun k => x_iload_n dX2_poke_46 rfl k) ?_
            refine hw_1 (fun k => x_i2b dX2_poke_47 rfl k) ?_
            refine hw_1 (fun k => x_ixor dX2_poke_48 rfl k) ?_
            refine hw_1 (fun k => x_i2b dX2_poke_49 rfl k) ?_
            replace h := ga_ck_some h; obtain ⟨hc50_2, h⟩ := h
            replace h := ga_ck_some h; obtain ⟨hc50_3, h⟩ := h
            replace h := ga_let_some h; obtain ⟨D50, eD50, h⟩ := h
            refine hw_set eD50 (Int.le_trans (by decide) hc50_2) hc50_3.1 (fun k => x_bast dX2_poke_50 (hk_p hc45_0) hc50_2 hc50_3.1 hc50_3.2.1 hc50_3.2.2 k) ?_
            have hP50 : h_P D50 := hP40.set eD50 hc50_2 hc50_3.1 (hPn (hk_p hc45_0) rfl)
            have hE50 : h_E D40 D50 := h_E_set eD50 hc50_3.1
            refine hw_1 (fun k => x_iconst dX2_poke_51 (by decide) k) ?_
            obtain ⟨rfl, rfl⟩ := ga_end h
            exact hw_ret hP50 (x_iret dX2_poke_52 rfl rfl (show (0 : Int) ≤ 1 ∧ (1 : Int) < 2 from by decide) hq)
          · rw [if_neg c30] at h
            refine hw_1 (fun k => x_icmp_le (tgt := 35) dX2_poke_30 (by decide) (fun z => absurd z c30) (fun _ => k)) ?_
            refine hw_1 (fun k => x_iconst dX2_poke_33 (by decide) k) ?_
            obtain ⟨rfl, rfl⟩ := ga_end h
            exact hw_ret hP5 (x_iret dX2_poke_34 rfl rfl (show (0 : Int) ≤ 0 ∧ (0 : Int) < 2 from by decide) hq)
theorem h_X2_byteAt_ok {G : aw_G} {D D' : ga_D} {r : Int} {x1 x2 : Int} (hr9 : r < 1180591620717411303424) (hP : h_P D) (h : h_X2_byteAt x1 x2 D = some (r, D')) : aw_HR yX2_byteAt cX2_byteAt 4 (some (.int)) 4 G [(2, 4097), (0, x1), (0, x2)] D (some (0, r)) D' := by
  unfold h_X2_byteAt at h
  refine hw_body (own := "WasteHouse$TicketChain") (ini := false) (ls := [(0, (2, 4097)), (1, (0, x1)), (2, (0, x2))]) rfl rfl (fun h => by cases h) (Nat.le_of_ble_eq_true rfl) rfl fun Q hq => ?_
  refine hw_1 (fun k => x_aload_n dX2_byteAt_0 rfl k) ?_
  refine hw_1 (fun k => x_getf (v := 4098) dX2_byteAt_1 fl_X2_10 (hkS (D := D) (show ga_K 4097 = (1, 0) from by decide +kernel) (by decide)) (hP.1 4097 0 4098 (by decide +kernel)) k) ?_
  refine hw_1 (fun k => x_iload_n dX2_byteAt_4 rfl k) ?_
  replace h := ga_bind_some h; obtain ⟨r5, D5, g5, h⟩ := h
  have hR5 := (h_X3_isRow_ok (G := G) hP g5)
  obtain ⟨hP5, hE5, -⟩ := id hR5
  refine hw_call (rest := []) hR5 (fun hc hk9 => x_callV (as := [(0, x1)]) (rest := []) dX2_byteAt_5 hc (lw_V q6573 q6574 q6575 q395 q6576) (hkS (D := D) (show ga_K 4098 = (2, 0) from by decide +kernel) (by decide)) rfl rfl (show _ ∧ _ ∧ _ ∧ _ = some 1 from by decide +kernel) (by decide) (by decide) rfl (Nat.le_of_ble_eq_true rfl) hk9 aw_nox) ?_
  by_cases c8 : r5 = 0
  · rw [if_pos c8] at h
    refine hw_1 (fun k => x_if_eq (tgt := 22) dX2_byteAt_8 (by decide) (fun _ => k) (fun z => absurd c8 z)) ?_
    refine hw_1 (fun k => x_iconst dX2_byteAt_22 (by decide) k) ?_
    replace h := ga_let_some h; obtain ⟨z23, ez23, h⟩ := h
    replace h := ga_let_some h; obtain ⟨D23, eD23, h⟩ := h
    refine hy_newa (t := 2) hP5 ez23 eD23 rfl rfl dX2_byteAt_23 rfl (by decide) q578 (by decide) (by decide) (fun hP23 hE23 hz23 hg23 => ?_)
    refine hw_1 (fun k => x_astore_n (ls' := [(3, (2, z23)), (0, (2, 4097)), (1, (0, x1)), (2, (0, x2))]) dX2_byteAt_25 (by decide) rfl k) ?_
    refine hw_1 (fun k => x_aload_n dX2_byteAt_26 rfl k) ?_
    refine hw_1 (fun k => x_iload_n dX2_byteAt_27 rfl k) ?_
    by_cases hthr : 0 ≤ x2 ∧ x2 < 0
    case neg => rw [if_pos hthr] at h; replace h := ga_ck_some h; obtain ⟨-, h⟩ := h; exact absurd hr9 (by have := (ga_end h).1; omega)
    rw [if_neg (fun z => z hthr)] at h
    refine hw_1 (fun k => x_bald (v := D23 z23 x2) dX2_byteAt_28 hz23 hthr.1 hthr.2 rfl k) ?_
    refine hw_1 (fun k => x_sipush dX2_byteAt_29 (by decide) k) ?_
    refine hw_1 (fun k => x_iand dX2_byteAt_32 rfl k) ?_
    obtain ⟨rfl, rfl⟩ := ga_end h
    exact hw_ret hP23 (x_iret dX2_byteAt_33 rfl rfl trivial hq)
  · rw [if_neg c8] at h
    refine hw_1 (fun k => x_if_eq (tgt := 22) dX2_byteAt_8 (by decide) (fun z => absurd z c8) (fun _ => k)) ?_
    refine hw_1 (fun k => x_aload_n dX2_byteAt_11 rfl k) ?_
    refine hw_1 (fun k => x_getf (v := 4098) dX2_byteAt_12 fl_X2_10 (hkS (D := D5) (show ga_K 4097 = (1, 0) from by decide +kernel) (by decide)) (hP5.1 4097 0 4098 (by decide +kernel)) k) ?_
    refine hw_1 (fun k => x_iload_n dX2_byteAt_15 rfl k) ?_
    replace h := ga_bind_some h; obtain ⟨r16, D16, g16, h⟩ := h
    have hR16 := (h_X3_row_ok (G := G) hP5 g16)
    obtain ⟨hP16, hE16, -⟩ := id hR16
    refine hw_call (rest := []) hR16 (fun hc hk9 => x_callV (as := [(0, x1)]) (rest := []) dX2_byteAt_16 hc (lw_V q6577 q6578 q6579 q395 q6580) (hkS (D := D5) (show ga_K 4098 = (2, 0) from by decide +kernel) (by decide)) rfl rfl (show _ ∧ _ ∧ _ ∧ _ = some 1 from by decide +kernel) (by decide) (by decide) rfl (Nat.le_of_ble_eq_true rfl) hk9 aw_nox) ?_
    refine hw_1 (fun k => x_goto (tgt := 25) dX2_byteAt_19 (by decide) k) ?_
    refine hw_1 (fun k => x_astore_n (ls' := [(3, (2, r16)), (0, (2, 4097)), (1, (0, x1)), (2, (0, x2))]) dX2_byteAt_25 (by decide) rfl k) ?_
    refine hw_1 (fun k => x_aload_n dX2_byteAt_26 rfl k) ?_
    refine hw_1 (fun k => x_iload_n dX2_byteAt_27 rfl k) ?_
    replace h := ga_ck_some h; obtain ⟨hc28_0, h⟩ := h
    by_cases hthr : 0 ≤ x2 ∧ x2 < (hk D16 r16).2
    case neg => rw [if_pos hthr] at h; replace h := ga_ck_some h; obtain ⟨-, h⟩ := h; exact absurd hr9 (by have := (ga_end h).1; omega)
    rw [if_neg (fun z => z hthr)] at h
    refine hw_1 (fun k => x_bald (v := D16 r16 x2) dX2_byteAt_28 (hk_p hc28_0) hthr.1 hthr.2 rfl k) ?_
    refine hw_1 (fun k => x_sipush dX2_byteAt_29 (by decide) k) ?_
    refine hw_1 (fun k => x_iand dX2_byteAt_32 rfl k) ?_
    obtain ⟨rfl, rfl⟩ := ga_end h
    exact hw_ret hP16 (x_iret dX2_byteAt_33 rfl rfl trivial hq)
theorem h_X2_digest_ok {G : aw_G} {D D' : ga_D} {r : Int} {x1 x2 : Int} (hP : h_P D) (h : h_X2_digest x1 x2 D = some (r, D')) : aw_HR yX2_digest cX2_digest 3 (some (.int)) 4 G [(2, 4097), (0, x1), (0, x2)] D (some (0, r)) D' := by
  unfold h_X2_digest at h
  refine hw_body (own := "WasteHouse$TicketChain") (ini := false) (ls := [(0, (2, 4097)), (1, (0, x1)), (2, (0, x2))]) rfl rfl (fun h => by cases h) (Nat.le_of_ble_eq_true rfl) rfl fun Q hq => ?_
  refine hw_1 (fun k => x_aload_n dX2_digest_0 rfl k) ?_
  refine hw_1 (fun k => x_getf (v := 4098) dX2_digest_1 fl_X2_10 (hkS (D := D) (show ga_K 4097 = (1, 0) from by decide +kernel) (by decide)) (hP.1 4097 0 4098 (by decide +kernel)) k) ?_
  refine hw_1 (fun k => x_iload_n dX2_digest_4 rfl k) ?_
  replace h := ga_bind_some h; obtain ⟨r5, D5, g5, h⟩ := h
  have hR5 := (h_X3_isRow_ok (G := G) hP g5)
  obtain ⟨hP5, hE5, -⟩ := id hR5
  refine hw_call (rest := []) hR5 (fun hc hk9 => x_callV (as := [(0, x1)]) (rest := []) dX2_digest_5 hc (lw_V q6573 q6574 q6575 q395 q6576) (hkS (D := D) (show ga_K 4098 = (2, 0) from by decide +kernel) (by decide)) rfl rfl (show _ ∧ _ ∧ _ ∧ _ = some 1 from by decide +kernel) (by decide) (by decide) rfl (Nat.le_of_ble_eq_true rfl) hk9 aw_nox) ?_
  by_cases c8 : r5 = 0
  · rw [if_pos c8] at h
    refine hw_1 (fun k => x_if_eq (tgt := 21) dX2_digest_8 (by decide) (fun _ => k) (fun z => absurd c8 z)) ?_
    refine hw_1 (fun k => x_iconst dX2_digest_21 (by decide) k) ?_
    refine hw_1 (fun k => x_goto (tgt := 42) dX2_digest_22 (by decide) k) ?_
    obtain ⟨rfl, rfl⟩ := ga_end h
    exact hw_ret hP5 (x_iret dX2_digest_42 rfl rfl trivial hq)
  · rw [if_neg c8] at h
    refine hw_1 (fun k => x_if_eq (tgt := 21) dX2_digest_8 (by decide) (fun z => absurd z c8) (fun _ => k)) ?_
    refine hw_1 (fun k => x_iload_n dX2_digest_11 rfl k) ?_
    by_cases c12 : x2 < 0
    · rw [if_pos c12] at h
      refine hw_1 (fun k => x_if_lt (tgt := 21) dX2_digest_12 (by decide) (fun _ => k) (fun z => absurd c12 z)) ?_
      refine hw_1 (fun k => x_iconst dX2_digest_21 (by decide) k) ?_
      refine hw_1 (fun k => x_goto (tgt := 42) dX2_digest_22 (by decide) k) ?_
      obtain ⟨rfl, rfl⟩ := ga_end h
      exact hw_ret hP5 (x_iret dX2_digest_42 rfl rfl trivial hq)
    · rw [if_neg c12] at h
      refine hw_1 (fun k => x_if_lt (tgt := 21) dX2_digest_12 (by decide) (fun z => absurd z c12) (fun _ => k)) ?_
      refine hw_1 (fun k => x_iload_n dX2_digest_15 rfl k) ?_
      refine hw_1 (fun k => x_bipush dX2_digest_16 (by decide) k) ?_
      by_cases c18 : x2 < 32
      · rw [if_pos c18] at h
        refine hw_1 (fun k => x_icmp_lt (tgt := 25) dX2_digest_18 (by decide) (fun _ => k) (fun z => absurd c18 z)) ?_
        refine hw_1 (fun k => x_aload_n dX2_digest_25 rfl k) ?_
        refine hw_1 (fun k => x_getf (v := 4098) dX2_digest_26 fl_X2_10 (hkS (D := D5) (show ga_K 4097 = (1, 0) from by decide +kernel) (by decide)) (hP5.1 4097 0 4098 (by decide +kernel)) k) ?_
        refine hw_1 (fun k => x_iload_n dX2_digest_29 rfl k) ?_
        replace h := ga_bind_some h; obtain ⟨r30, D30, g30, h⟩ := h
        have hR30 := (h_X3_row_ok (G := G) hP5 g30)
        obtain ⟨hP30, hE30, -⟩ := id hR30
        refine hw_call (rest := []) hR30 (fun hc hk9 => x_callV (as := [(0, x1)]) (rest := []) dX2_digest_30 hc (lw_V q6577 q6578 q6579 q395 q6580) (hkS (D := D5) (show ga_K 4098 = (2, 0) from by decide +kernel) (by decide)) rfl rfl (show _ ∧ _ ∧ _ ∧ _ = some 1 from by decide +kernel) (by decide) (by decide) rfl (Nat.le_of_ble_eq_true rfl) hk9 aw_nox) ?_
        refine hw_1 (fun k => x_bipush dX2_digest_33 (by decide) k) ?_
        refine hw_1 (fun k => x_iload_n dX2_digest_35 rfl k) ?_
        refine hw_1 (fun k => x_iadd dX2_digest_36 rfl k) ?_
        replace h := ga_ck_some h; obtain ⟨hc37_0, h⟩ := h
        replace h := ga_ck_some h; obtain ⟨hc37_1, h⟩ := h
        refine hw_1 (fun k => x_bald (v := D30 r30 (aw_w32 (41 + x2))) dX2_digest_37 (hk_p hc37_0) hc37_1.1 hc37_1.2 rfl k) ?_
        refine hw_1 (fun k => x_sipush dX2_digest_38 (by decide) k) ?_
        refine hw_1 (fun k => x_iand dX2_digest_41 rfl k) ?_
        obtain ⟨rfl, rfl⟩ := ga_end h
        exact hw_ret hP30 (x_iret dX2_digest_42 rfl rfl trivial hq)
      · rw [if_neg c18] at h
        refine hw_1 (fun k => x_icmp_lt (tgt := 25) dX2_digest_18 (by decide) (fun z => absurd z c18) (fun _ => k)) ?_
        refine hw_1 (fun k => x_iconst dX2_digest_21 (by decide) k) ?_
        refine hw_1 (fun k => x_goto (tgt := 42) dX2_digest_22 (by decide) k) ?_
        obtain ⟨rfl, rfl⟩ := ga_end h
        exact hw_ret hP5 (x_iret dX2_digest_42 rfl rfl trivial hq)
theorem h_X3_root_l29_ok {G : aw_G} {M0 : aw_M} {D' : ga_D} {Q : Option aw_V → aw_M → Prop} {r : Int} (hq : Q (some (0, r)) (hM D')) {k74 : Int → ga_D → ga_S} (hk74 : ∀ (x3 : Int) (D : ga_D), h_P D → k74 x3 D = some (r, D') → aw_HW G "WasteHouse$TicketChain$Chain" cX3_root (some (.boolean)) 6 5 false M0 Q aw_no D' (hn D') (hsl D') 74 [(0, (2, 4098)), (3, (0, x3))] [] D) : ∀ {n : Nat} {x3 x4 : Int} {D : ga_D}, h_P D → h_X3_root_l29 n x3 x4 D k74 = some (r, D') → aw_HW G "WasteHouse$TicketChain$Chain" cX3_root (some (.boolean)) 6 5 false M0 Q aw_no D' (hn D') (hsl D') 29 [(0, (2, 4098)), (3, (0, x3)), (4, (2, x4))] [] D := by
  intro n
  induction n with
  | zero => intro x3 x4 D hP h; exact absurd (h : (none : ga_S) = some (r, D')) (by intro h; cases h)
  | succ n ih =>
    intro x3 x4 D hP h
    have ih : ∀ (x3 x4 : Int) (D : ga_D), h_P D → h_X3_root_l29 n x3 x4 D k74 = some (r, D') → aw_HW G "WasteHouse$TicketChain$Chain" cX3_root (some (.boolean)) 6 5 false M0 Q aw_no D' (hn D') (hsl D') 29 [(0, (2, 4098)), (3, (0, x3)), (4, (2, x4))] [] D := fun x3 x4 D hP h => ih hP h
    replace h : (ga_bind (if hk D x4 = (71, 0) then (h_J26_hasNext x4 D) else if hk D x4 = (78, 0) then (h_J37_hasNext x4 D) else if hk D x4 = (80, 0) then (h_J40_hasNext x4 D) else if hk D x4 = (82, 0) then (h_J43_hasNext x4 D) else none) (fun r31 D31 => if r31 = 0 then (k74 x3 D31) else (ga_bind (if hk D31 x4 = (71, 0) then (h_J26_next x4 D31) else if hk D31 x4 = (78, 0) then (h_J38_next x4 D31) else if hk D31 x4 = (80, 0) then (h_J41_next x4 D31) else if hk D31 x4 = (82, 0) then (h_J43_next x4 D31) else none) (fun r41 D41 => ga_ck (r41 = 0 ∨ (hk D41 r41).1 = 1002) (ga_ck ((hk D41 r41).1 = 1002) (ga_ck ((0 : Int) ≤ 41 ∧ 0 ≤ aw_w32 (32 * x3) ∧ (0 : Int) ≤ 32 ∧ 41 + 32 ≤ (hk D41 r41).2 ∧ aw_w32 (32 * x3) + 32 ≤ 6400) (ga_let (ga_cp D41 r41 41 4110 (aw_w32 (32 * x3)) 32) (fun D65 => ga_let (aw_w32 (x3 + 1)) (fun v68 => h_X3_root_l29 n v68 x4 D65 k74)))))))) : ga_S) = some (r, D') := h
    refine hw_1 (fun k => x_aload dX3_root_29 rfl k) ?_
    replace h := ga_bind_some h; obtain ⟨r31, D31, g31, h⟩ := h
    have hS31 : h_P D31 ∧ h_E D D31 ∧ ∃ mc ms : Nat, hn D + mc = hn D31 ∧ hsl D + ms = hsl D31 ∧ ∀ {c sl : Nat}, aw_W G "WasteHouse$TicketChain$Chain" cX3_root (some (.boolean)) 6 5 false M0 Q aw_no c sl 36 [(0, (2, 4098)), (3, (0, x3)), (4, (2, x4))] [(0, r31)] (hM D31) → aw_W G "WasteHouse$TicketChain$Chain" cX3_root (some (.boolean)) 6 5 false M0 Q aw_no (c + mc) (sl + ms) 31 [(0, (2, 4098)), (3, (0, x3)), (4, (2, x4))] [(2, x4)] (hM D) := by
      by_cases w31_71 : hk D x4 = (71, 0)
      · rw [if_pos w31_71] at g31
        have hR := (h_J26_hasNext_ok (G := G) hP g31)
        exact hw_callM (rest := []) hR (fun hc hk9 => x_callF (C := "java/util/ArrayList$Itr") (as := []) (rest := []) dX3_root_31 hc q2979 q6600 (by decide +kernel) q2975 q2977 q477 q2978 q2976 q2974 w31_71 rfl rfl (show _ = some 0 from by decide +kernel) (by decide) (by decide) rfl (Nat.le_of_ble_eq_true rfl) hk9 aw_nox)
      rw [if_neg w31_71] at g31
      by_cases w31_78 : hk D x4 = (78, 0)
      · rw [if_pos w31_78] at g31
        have hR := (h_J37_hasNext_ok (G := G) hP g31)
        exact hw_callM (rest := []) hR (fun hc hk9 => x_callF (C := "java/util/HashMap$KeyIterator") (as := []) (rest := []) dX3_root_31 hc q2985 q6600 (by decide +kernel) q2981 q2983 q495 q2984 q2982 q2980 w31_78 rfl rfl (show _ = some 0 from by decide +kernel) (by decide) (by decide) rfl (Nat.le_of_ble_eq_true rfl) hk9 aw_nox)
      rw [if_neg w31_78] at g31
      by_cases w31_80 : hk D x4 = (80, 0)
      · rw [if_pos w31_80] at g31
        have hR := (h_J40_hasNext_ok (G := G) hP g31)
        exact hw_callM (rest := []) hR (fun hc hk9 => x_callF (C := "java/util/TreeMap$EntryIterator") (as := []) (rest := []) dX3_root_31 hc q2991 q6600 (by decide +kernel) q2987 q2989 q498 q2990 q2988 q2986 w31_80 rfl rfl (show _ = some 0 from by decide +kernel) (by decide) (by decide) rfl (Nat.le_of_ble_eq_true rfl) hk9 aw_nox)
      rw [if_neg w31_80] at g31
      by_cases w31_82 : hk D x4 = (82, 0)
      · rw [if_pos w31_82] at g31
        have hR := (h_J43_hasNext_ok (G := G) hP g31)
        exact hw_callM (rest := []) hR (fun hc hk9 => x_callF (C := "java/util/ArrayDeque$DeqIterator") (as := []) (rest := []) dX3_root_31 hc q2973 q6600 (by decide +kernel) q2969 q2971 q502 q2972 q2970 q2968 w31_82 rfl rfl (show _ = some 0 from by decide +kernel) (by decide) (by decide) rfl (Nat.le_of_ble_eq_true rfl) hk9 aw_nox)
      rw [if_neg w31_82] at g31
      exact absurd g31 (by intro h; cases h)
    obtain ⟨hP31, hE31, hS31⟩ := hS31
    refine hw_go ⟨hE31, hS31⟩ ?_
    by_cases c36 : r31 = 0
    · rw [if_pos c36] at h
      refine hw_1 (fun k => x_if_eq (tgt := 74) dX3_root_36 (by decide) (fun _ => k) (fun z => absurd c36 z)) ?_
      refine hw_locs [0, 1] (ls' := [(0, (2, 4098)), (3, (0, x3))]) rfl ?_
      exact hk74 _ _ hP31 h
    · rw [if_neg c36] at h
      refine hw_1 (fun k => x_if_eq (tgt := 74) dX3_root_36 (by decide) (fun z => absurd z c36) (fun _ => k)) ?_
      refine hw_1 (fun k => x_aload dX3_root_39 rfl k) ?_
      replace h := ga_bind_some h; obtain ⟨r41, D41, g41, h⟩ := h
      have hS41 : h_P D41 ∧ h_E D31 D41 ∧ ∃ mc ms : Nat, hn D31 + mc = hn D41 ∧ hsl D31 + ms = hsl D41 ∧ ∀ {c sl : Nat}, aw_W G "WasteHouse$TicketChain$Chain" cX3_root (some (.boolean)) 6 5 false M0 Q aw_no c sl 46 [(0, (2, 4098)), (3, (0, x3)), (4, (2, x4))] [(2, r41)] (hM D41) → aw_W G "WasteHouse$TicketChain$Chain" cX3_root (some (.boolean)) 6 5 false M0 Q aw_no (c + mc) (sl + ms) 41 [(0, (2, 4098)), (3, (0, x3)), (4, (2, x4))] [(2, x4)] (hM D31) := by
        by_cases w41_71 : hk D31 x4 = (71, 0)
        · rw [if_pos w41_71] at g41
          have hR := (h_J26_next_ok (G := G) hP31 g41)
          exact hw_callM (rest := []) hR (fun hc hk9 => x_callF (C := "java/util/ArrayList$Itr") (as := []) (rest := []) dX3_root_41 hc q3011 q6602 (by decide +kernel) q3007 q3009 q477 q3010 q3008 q2974 w41_71 rfl rfl (show _ = some 0 from by decide +kernel) (by decide) (by decide) rfl (Nat.le_of_ble_eq_true rfl) hk9 aw_nox)
        rw [if_neg w41_71] at g41
        by_cases w41_78 : hk D31 x4 = (78, 0)
        · rw [if_pos w41_78] at g41
          have hR := (h_J38_next_ok (G := G) hP31 g41)
          exact hw_callM (rest := []) hR (fun hc hk9 => x_callF (C := "java/util/HashMap$KeyIterator") (as := []) (rest := []) dX3_root_41 hc q3020 q6602 (by decide +kernel) q3016 q3018 q496 q3019 q3017 q2980 w41_78 rfl rfl (show _ = some 0 from by decide +kernel) (by decide) (by decide) rfl (Nat.le_of_ble_eq_true rfl) hk9 aw_nox)
        rw [if_neg w41_78] at g41
        by_cases w41_80 : hk D31 x4 = (80, 0)
        · rw [if_pos w41_80] at g41
          have hR := (h_J41_next_ok (G := G) hP31 g41)
          exact hw_callM (rest := []) hR (fun hc hk9 => x_callF (C := "java/util/TreeMap$EntryIterator") (as := []) (rest := []) dX3_root_41 hc q3031 q6602 (by decide +kernel) q3027 q3029 q499 q3030 q3028 q2986 w41_80 rfl rfl (show _ = some 0 from by decide +kernel) (by decide) (by decide) rfl (Nat.le_of_ble_eq_true rfl) hk9 aw_nox)
        rw [if_neg w41_80] at g41
        by_cases w41_82 : hk D31 x4 = (82, 0)
        · rw [if_pos w41_82] at g41
          have hR := (h_J43_next_ok (G := G) hP31 g41)
          exact hw_callM (rest := []) hR (fun hc hk9 => x_callF (C := "java/util/ArrayDeque$DeqIterator") (as := []) (rest := []) dX3_root_41 hc q3000 q6602 (by decide +kernel) q2996 q2998 q502 q2999 q2997 q2968 w41_82 rfl rfl (show _ = some 0 from by decide +kernel) (by decide) (by decide) rfl (Nat.le_of_ble_eq_true rfl) hk9 aw_nox)
        rw [if_neg w41_82] at g41
        exact absurd g41 (by intro h; cases h)
      obtain ⟨hP41, hE41, hS41⟩ := hS41
      refine hw_go ⟨hE41, hS41⟩ ?_
      replace h := ga_ck_some h; obtain ⟨hc46_0, h⟩ := h
      refine hw_1 (fun k => x_castA (t := 2) dX3_root_46 q5181 rfl rfl (hc46_0.imp id hk_p) k) ?_
      refine hw_1 (fun k => x_astore (ls' := [(5, (2, r41)), (0, (2, 4098)), (3, (0, x3)), (4, (2, x4))]) dX3_root_49 (by decide) rfl k) ?_
      refine hw_1 (fun k => x_aload dX3_root_51 rfl k) ?_
      refine hw_1 (fun k => x_bipush dX3_root_53 (by decide) k) ?_
      refine hw_1 (fun k => x_aload_n dX3_root_55 rfl k) ?_
      refine hw_1 (fun k => x_getf (v := 4110) dX3_root_56 fl_X3_48 (hkS (D := D41) (show ga_K 4098 = (2, 0) from by decide +kernel) (by decide)) (hP41.1 4098 5 4110 (by decide +kernel)) k) ?_
      refine hw_1 (fun k => x_bipush dX3_root_59 (by decide) k) ?_
      refine hw_1 (fun k => x_iload_n dX3_root_61 rfl k) ?_
      refine hw_1 (fun k => x_imul dX3_root_62 rfl k) ?_
      refine hw_1 (fun k => x_bipush dX3_root_63 (by decide) k) ?_
      replace h := ga_ck_some h; obtain ⟨hc65_1, h⟩ := h
      replace h := ga_ck_some h; obtain ⟨hc65_2, h⟩ := h
      replace h := ga_let_some h; obtain ⟨D65, eD65, h⟩ := h
      refine hw_cp eD65 (by decide) hc65_2.2.1 (fun k => x_copy (t := 2) rfl dX3_root_65 q6603 q2070 q2069 q444 (hk_p hc65_1) (hkS (D := D41) (show ga_K 4110 = (1002, 6400) from by decide +kernel) (by decide)) rfl rfl (by decide) hc65_2 (by decide) (Nat.le_of_ble_eq_true rfl) k) ?_
      have hP65 : h_P D65 := hP41.cp eD65 (by decide) hc65_2.2.1 (fun _ => hPn (hkS (D := D41) (show ga_K 4110 = (1002, 6400) from by decide +kernel) (by decide)) rfl)
      have hE65 : h_E D41 D65 := h_E_cp eD65 hc65_2.2.1
      replace h := ga_let_some h; obtain ⟨v68, ev68, h⟩ := h
      refine hw_1 (fun k => x_iinc (ls' := [(3, (0, v68)), (5, (2, r41)), (0, (2, 4098)), (4, (2, x4))]) dX3_root_68 rfl ev68.symm (by decide) rfl k) ?_
      refine hw_1 (fun k => x_goto (tgt := 29) dX3_root_71 (by decide) k) ?_
      refine hw_locs [2, 0, 3] (ls' := [(0, (2, 4098)), (3, (0, v68)), (4, (2, x4))]) rfl ?_
      exact ih _ _ _ hP65 h
theorem h_X3_root_l82_ok {G : aw_G} {M0 : aw_M} {D' : ga_D} {Q : Option aw_V → aw_M → Prop} {r : Int} (hq : Q (some (0, r)) (hM D')) {k139 : Int → ga_D → ga_S} (hk139 : ∀ (x3 : Int) (D : ga_D), h_P D → k139 x3 D = some (r, D') → aw_HW G "WasteHouse$TicketChain$Chain" cX3_root (some (.boolean)) 6 5 false M0 Q aw_no D' (hn D') (hsl D') 139 [(0, (2, 4098)), (3, (0, x3))] [] D) : ∀ {n : Nat} {x3 x4 : Int} {D : ga_D}, h_P D → h_X3_root_l82 n x3 x4 D k139 = some (r, D') → aw_HW G "WasteHouse$TicketChain$Chain" cX3_root (some (.boolean)) 6 5 false M0 Q aw_no D' (hn D') (hsl D') 82 [(0, (2, 4098)), (3, (0, x3)), (4, (0, x4))] [] D := by
  intro n
  induction n with
  | zero => intro x3 x4 D hP h; exact absurd (h : (none : ga_S) = some (r, D')) (by intro h; cases h)
  | succ n ih =>
    intro x3 x4 D hP h
    have ih : ∀ (x3 x4 : Int) (D : ga_D), h_P D → h_X3_root_l82 n x3 x4 D k139 = some (r, D') → aw_HW G "WasteHouse$TicketChain$Chain" cX3_root (some (.boolean)) 6 5 false M0 Q aw_no D' (hn D') (hsl D') 82 [(0, (2, 4098)), (3, (0, x3)), (4, (0, x4))] [] D := fun x3 x4 D hP h => ih hP h
    replace h : (if x3 ≤ aw_w32 (x4 + 1) then (k139 x3 D) else (ga_bind (h_X4_begin D) (fun r94 D94 => ga_bind (h_X4_take 4110 (aw_w32 (32 * x4)) 64 D94) (fun r112 D112 => ga_bind (h_X4_end 4110 (aw_w32 (32 * (aw_w32 (Int.tdiv x4 2)))) D112) (fun r130 D130 => ga_let (aw_w32 (x4 + 2)) (fun v133 => h_X3_root_l82 n x3 v133 D130 k139))))) : ga_S) = some (r, D') := h
    refine hw_1 (fun k => x_iload dX3_root_82 rfl k) ?_
    refine hw_1 (fun k => x_iconst dX3_root_84 (by decide) k) ?_
    refine hw_1 (fun k => x_iadd dX3_root_85 rfl k) ?_
    refine hw_1 (fun k => x_iload_n dX3_root_86 rfl k) ?_
    by_cases c87 : x3 ≤ aw_w32 (x4 + 1)
    · rw [if_pos c87] at h
      refine hw_1 (fun k => x_icmp_ge (tgt := 139) dX3_root_87 (by decide) (fun _ => k) (fun z => absurd c87 z)) ?_
      refine hw_locs [0, 1] (ls' := [(0, (2, 4098)), (3, (0, x3))]) rfl ?_
      exact hk139 _ _ hP h
    · rw [if_neg c87] at h
      refine hw_1 (fun k => x_icmp_ge (tgt := 139) dX3_root_87 (by decide) (fun z => absurd z c87) (fun _ => k)) ?_
      refine hw_1 (fun k => x_aload_n dX3_root_90 rfl k) ?_
      refine hw_1 (fun k => x_getf (v := 4099) dX3_root_91 fl_X3_17 (hkS (D := D) (show ga_K 4098 = (2, 0) from by decide +kernel) (by decide)) (hP.1 4098 0 4099 (by decide +kernel)) k) ?_
      replace h := ga_bind_some h; obtain ⟨r94, D94, g94, h⟩ := h
      have hR94 := (h_X4_begin_ok (G := G) hP g94)
      obtain ⟨hP94, hE94, -⟩ := id hR94
      refine hw_call (rest := []) hR94 (fun hc hk9 => x_callV (as := []) (rest := []) dX3_root_94 hc (lw_V q5186 q5187 q5188 q396 q5189) (hkS (D := D) (show ga_K 4099 = (3, 0) from by decide +kernel) (by decide)) rfl rfl (show _ ∧ _ ∧ _ ∧ _ = some 0 from by decide +kernel) (by decide) (by decide) rfl (Nat.le_of_ble_eq_true rfl) hk9 aw_nox) ?_
      refine hw_1 (fun k => x_aload_n dX3_root_97 rfl k) ?_
      refine hw_1 (fun k => x_getf (v := 4099) dX3_root_98 fl_X3_17 (hkS (D := D94) (show ga_K 4098 = (2, 0) from by decide +kernel) (by decide)) (hP94.1 4098 0 4099 (by decide +kernel)) k) ?_
      refine hw_1 (fun k => x_aload_n dX3_root_101 rfl k) ?_
      refine hw_1 (fun k => x_getf (v := 4110) dX3_root_102 fl_X3_48 (hkS (D := D94) (show ga_K 4098 = (2, 0) from by decide +kernel) (by decide)) (hP94.1 4098 5 4110 (by decide +kernel)) k) ?_
      refine hw_1 (fun k => x_bipush dX3_root_105 (by decide) k) ?_
      refine hw_1 (fun k => x_iload dX3_root_107 rfl k) ?_
      refine hw_1 (fun k => x_imul dX3_root_109 rfl k) ?_
      refine hw_1 (fun k => x_bipush dX3_root_110 (by decide) k) ?_
      replace h := ga_bind_some h; obtain ⟨r112, D112, g112, h⟩ := h
      have hR112 := (h_X4_take_ok (G := G) hP94 g112)
      obtain ⟨hP112, hE112, -⟩ := id hR112
      refine hw_call (rest := []) hR112 (fun hc hk9 => x_callV (as := [(2, 4110), (0, aw_w32 (32 * x4)), (0, 64)]) (rest := []) dX3_root_112 hc (lw_V q5191 q5192 q5193 q396 q5194) (hkS (D := D94) (show ga_K 4099 = (3, 0) from by decide +kernel) (by decide)) rfl rfl (show _ ∧ _ ∧ _ ∧ _ = some 3 from by decide +kernel) (by decide) (by decide) rfl (Nat.le_of_ble_eq_true rfl) hk9 aw_nox) ?_
      refine hw_1 (fun k => x_aload_n dX3_root_115 rfl k) ?_
      refine hw_1 (fun k => x_getf (v := 4099) dX3_root_116 fl_X3_17 (hkS (D := D112) (show ga_K 4098 = (2, 0) from by decide +kernel) (by decide)) (hP112.1 4098 0 4099 (by decide +kernel)) k) ?_
      refine hw_1 (fun k => x_aload_n dX3_root_119 rfl k) ?_
      refine hw_1 (fun k => x_getf (v := 4110) dX3_root_120 fl_X3_48 (hkS (D := D112) (show ga_K 4098 = (2, 0) from by decide +kernel) (by decide)) (hP112.1 4098 5 4110 (by decide +kernel)) k) ?_
      refine hw_1 (fun k => x_bipush dX3_root_123 (by decide) k) ?_
      refine hw_1 (fun k => x_iload dX3_root_125 rfl k) ?_
      refine hw_1 (fun k => x_iconst dX3_root_127 (by decide) k) ?_
      refine hw_1 (fun k => x_idiv dX3_root_128 (by decide) rfl k) ?_
      refine hw_1 (fun k => x_imul dX3_root_129 rfl k) ?_
      replace h := ga_bind_some h; obtain ⟨r130, D130, g130, h⟩ := h
      have hR130 := (h_X4_end_ok (G := G) hP112 g130)
      obtain ⟨hP130, hE130, -⟩ := id hR130
      refine hw_call (rest := []) hR130 (fun hc hk9 => x_callV (as := [(2, 4110), (0, aw_w32 (32 * (aw_w32 (Int.tdiv x4 2))))]) (rest := []) dX3_root_130 hc (lw_V q5208 q5209 q5210 q396 q5211) (hkS (D := D112) (show ga_K 4099 = (3, 0) from by decide +kernel) (by decide)) rfl rfl (show _ ∧ _ ∧ _ ∧ _ = some 2 from by decide +kernel) (by decide) (by decide) rfl (Nat.le_of_ble_eq_true rfl) hk9 aw_nox) ?_
      replace h := ga_let_some h; obtain ⟨v133, ev133, h⟩ := h
      refine hw_1 (fun k => x_iinc (ls' := [(4, (0, v133)), (0, (2, 4098)), (3, (0, x3))]) dX3_root_133 rfl ev133.symm (by decide) rfl k) ?_
      refine hw_1 (fun k => x_goto (tgt := 82) dX3_root_136 (by decide) k) ?_
      refine hw_locs [1, 2, 0] (ls' := [(0, (2, 4098)), (3, (0, x3)), (4, (0, v133))]) rfl ?_
      exact ih _ _ _ hP130 h
theorem h_X3_root_l74_ok {G : aw_G} {M0 : aw_M} {D' : ga_D} {Q : Option aw_V → aw_M → Prop} {r : Int} (hq : Q (some (0, r)) (hM D')) {k180 : ga_D → ga_S} (hk180 : ∀ (D : ga_D), h_P D → k180 D = some (r, D') → aw_HW G "WasteHouse$TicketChain$Chain" cX3_root (some (.boolean)) 6 5 false M0 Q aw_no D' (hn D') (hsl D') 180 [] [] D) : ∀ {n : Nat} {x3 : Int} {D : ga_D}, h_P D → h_X3_root_l74 n x3 D k180 = some (r, D') → aw_HW G "WasteHouse$TicketChain$Chain" cX3_root (some (.boolean)) 6 5 false M0 Q aw_no D' (hn D') (hsl D') 74 [(0, (2, 4098)), (3, (0, x3))] [] D := by
  intro n
  induction n with
  | zero => intro x3 D hP h; exact absurd (h : (none : ga_S) = some (r, D')) (by intro h; cases h)
  | succ n ih =>
    intro x3 D hP h
    have ih : ∀ (x3 : Int) (D : ga_D), h_P D → h_X3_root_l74 n x3 D k180 = some (r, D') → aw_HW G "WasteHouse$TicketChain$Chain" cX3_root (some (.boolean)) 6 5 false M0 Q aw_no D' (hn D') (hsl D') 74 [(0, (2, 4098)), (3, (0, x3))] [] D := fun x3 D hP h => ih hP h
    replace h : (if x3 ≤ 1 then (k180 D) else (h_X3_root_l82 aw_fu x3 0 D (fun x3 D139 => if Int.tmod x3 2 ≠ 1 then (ga_let (aw_w32 (Int.tdiv (aw_w32 (x3 + 1)) 2)) (fun v176 => h_X3_root_l74 n v176 D139 k180)) else (ga_ck (0 ≤ aw_w32 (32 * (aw_w32 (x3 - 1))) ∧ 0 ≤ aw_w32 (32 * (aw_w32 (Int.tdiv x3 2))) ∧ (0 : Int) ≤ 32 ∧ aw_w32 (32 * (aw_w32 (x3 - 1))) + 32 ≤ 6400 ∧ aw_w32 (32 * (aw_w32 (Int.tdiv x3 2))) + 32 ≤ 6400) (ga_let (ga_cp D139 4110 (aw_w32 (32 * (aw_w32 (x3 - 1)))) 4110 (aw_w32 (32 * (aw_w32 (Int.tdiv x3 2)))) 32) (fun D168 => ga_let (aw_w32 (Int.tdiv (aw_w32 (x3 + 1)) 2)) (fun v176 => h_X3_root_l74 n v176 D168 k180)))))) : ga_S) = some (r, D') := h
    refine hw_1 (fun k => x_iload_n dX3_root_74 rfl k) ?_
    refine hw_1 (fun k => x_iconst dX3_root_75 (by decide) k) ?_
    by_cases c76 : x3 ≤ 1
    · rw [if_pos c76] at h
      refine hw_1 (fun k => x_icmp_le (tgt := 180) dX3_root_76 (by decide) (fun _ => k) (fun z => absurd c76 z)) ?_
      refine hw_locs [] (ls' := []) rfl ?_
      exact hk180 _ hP h
    · rw [if_neg c76] at h
      refine hw_1 (fun k => x_icmp_le (tgt := 180) dX3_root_76 (by decide) (fun z => absurd z c76) (fun _ => k)) ?_
      refine hw_1 (fun k => x_iconst dX3_root_79 (by decide) k) ?_
      refine hw_1 (fun k => x_istore (ls' := [(4, (0, 0)), (0, (2, 4098)), (3, (0, x3))]) dX3_root_80 (by decide) rfl k) ?_
      refine hw_locs [1, 2, 0] (ls' := [(0, (2, 4098)), (3, (0, x3)), (4, (0, 0))]) rfl ?_
      refine h_X3_root_l82_ok hq (fun x3 D139 hP h => ?_) hP h
      · refine hw_1 (fun k => x_iload_n dX3_root_139 rfl k) ?_
        refine hw_1 (fun k => x_iconst dX3_root_140 (by decide) k) ?_
        refine hw_1 (fun k => x_irem dX3_root_141 (by decide) rfl k) ?_
        refine hw_1 (fun k => x_iconst dX3_root_142 (by decide) k) ?_
        by_cases c143 : Int.tmod x3 2 ≠ 1
        · rw [if_pos c143] at h
          refine hw_1 (fun k => x_icmp_ne (tgt := 171) dX3_root_143 (by decide) (fun _ => k) (fun z => absurd c143 z)) ?_
          refine hw_1 (fun k => x_iload_n dX3_root_171 rfl k) ?_
          refine hw_1 (fun k => x_iconst dX3_root_172 (by decide) k) ?_
          refine hw_1 (fun k => x_iadd dX3_root_173 rfl k) ?_
          refine hw_1 (fun k => x_iconst dX3_root_174 (by decide) k) ?_
          refine hw_1 (fun k => x_idiv dX3_root_175 (by decide) rfl k) ?_
          replace h := ga_let_some h; obtain ⟨v176, ev176, h⟩ := h
          refine hw_nm ev176 ?_
          refine hw_1 (fun k => x_istore_n (ls' := [(3, (0, v176)), (0, (2, 4098))]) dX3_root_176 (by decide) rfl k) ?_
          refine hw_1 (fun k => x_goto (tgt := 74) dX3_root_177 (by decide) k) ?_
          refine hw_locs [1, 0] (ls' := [(0, (2, 4098)), (3, (0, v176))]) rfl ?_
          exact ih _ _ hP h
        · rw [if_neg c143] at h
          refine hw_1 (fun k => x_icmp_ne (tgt := 171) dX3_root_143 (by decide) (fun z => absurd z c143) (fun _ => k)) ?_
          refine hw_1 (fun k => x_aload_n dX3_root_146 rfl k) ?_
          refine hw_1 (fun k => x_getf (v := 4110) dX3_root_147 fl_X3_48 (hkS (D := D139) (show ga_K 4098 = (2, 0) from by decide +kernel) (by decide)) (hP.1 4098 5 4110 (by decide +kernel)) k) ?_
          refine hw_1 (fun k => x_bipush dX3_root_150 (by decide) k) ?_
          refine hw_1 (fun k => x_iload_n dX3_root_152 rfl k) ?_
          refine hw_1 (fun k => x_iconst dX3_root_153 (by decide) k) ?_
          refine hw_1 (fun k => x_isub dX3_root_154 rfl k) ?_
          refine hw_1 (fun k => x_imul dX3_root_155 rfl k) ?_
          refine hw_1 (fun k => x_aload_n dX3_root_156 rfl k) ?_
          refine hw_1 (fun k => x_getf (v := 4110) dX3_root_157 fl_X3_48 (hkS (D := D139) (show ga_K 4098 = (2, 0) from by decide +kernel) (by decide)) (hP.1 4098 5 4110 (by decide +kernel)) k) ?_
          refine hw_1 (fun k => x_bipush dX3_root_160 (by decide) k) ?_
          refine hw_1 (fun k => x_iload_n dX3_root_162 rfl k) ?_
          refine hw_1 (fun k => x_iconst dX3_root_163 (by decide) k) ?_
          refine hw_1 (fun k => x_idiv dX3_root_164 (by decide) rfl k) ?_
          refine hw_1 (fun k => x_imul dX3_root_165 rfl k) ?_
          refine hw_1 (fun k => x_bipush dX3_root_166 (by decide) k) ?_
          replace h := ga_ck_some h; obtain ⟨hc168_0, h⟩ := h
          replace h := ga_let_some h; obtain ⟨D168, eD168, h⟩ := h
          refine hw_cp eD168 (by decide) hc168_0.2.1 (fun k => x_copy (t := 2) rfl dX3_root_168 q6603 q2070 q2069 q444 (hkS (D := D139) (show ga_K 4110 = (1002, 6400) from by decide +kernel) (by decide)) (hkS (D := D139) (show ga_K 4110 = (1002, 6400) from by decide +kernel) (by decide)) rfl rfl (by decide) hc168_0 (by decide) (Nat.le_of_ble_eq_true rfl) k) ?_
          have hP168 : h_P D168 := hP.cp eD168 (by decide) hc168_0.2.1 (fun _ => hPn (hkS (D := D139) (show ga_K 4110 = (1002, 6400) from by decide +kernel) (by decide)) rfl)
          have hE168 : h_E D139 D168 := h_E_cp eD168 hc168_0.2.1
          refine hw_1 (fun k => x_iload_n dX3_root_171 rfl k) ?_
          refine hw_1 (fun k => x_iconst dX3_root_172 (by decide) k) ?_
          refine hw_1 (fun k => x_iadd dX3_root_173 rfl k) ?_
          refine hw_1 (fun k => x_iconst dX3_root_174 (by decide) k) ?_
          refine hw_1 (fun k => x_idiv dX3_root_175 (by decide) rfl k) ?_
          replace h := ga_let_some h; obtain ⟨v176, ev176, h⟩ := h
          refine hw_nm ev176 ?_
          refine hw_1 (fun k => x_istore_n (ls' := [(3, (0, v176)), (0, (2, 4098))]) dX3_root_176 (by decide) rfl k) ?_
          refine hw_1 (fun k => x_goto (tgt := 74) dX3_root_177 (by decide) k) ?_
          refine hw_locs [1, 0] (ls' := [(0, (2, 4098)), (3, (0, v176))]) rfl ?_
          exact ih _ _ hP168 h
theorem h_X3_root_ok {G : aw_G} {D D' : ga_D} {r : Int} {x1 : Int} (hP : h_P D) (h : h_X3_root x1 D = some (r, D')) : aw_HR yX3_root cX3_root 6 (some (.boolean)) 5 G [(2, 4098), (0, x1)] D (some (0, r)) D' := by
  unfold h_X3_root at h
  refine hw_body (own := "WasteHouse$TicketChain$Chain") (ini := false) (ls := [(0, (2, 4098)), (1, (0, x1))]) rfl rfl (fun h => by cases h) (Nat.le_of_ble_eq_true rfl) rfl fun Q hq => ?_
  refine hw_1 (fun k => x_aload_n dX3_root_0 rfl k) ?_
  refine hw_1 (fun k => x_getf (v := 4108) dX3_root_1 fl_X3_40 (hkS (D := D) (show ga_K 4098 = (2, 0) from by decide +kernel) (by decide)) (hP.1 4098 3 4108 (by decide +kernel)) k) ?_
  refine hw_1 (fun k => x_iload_n dX3_root_4 rfl k) ?_
  replace h := ga_bind_some h; obtain ⟨r5, D5, g5, h⟩ := h
  have hR5 := (h_J25_valueOf_ok (G := G) hP g5)
  obtain ⟨hP5, hE5, -⟩ := id hR5
  refine hw_call (rest := [(2, 4108)]) hR5 (fun hc hk9 => x_callS (as := [(0, x1)]) (rest := [(2, 4108)]) dX3_root_5 hc (lw_S q5215 q3560 q476 q3561) (show _ ∧ _ ∧ _ = some 1 from by decide +kernel) (by decide) (by decide) rfl (Nat.le_of_ble_eq_true rfl) hk9 aw_nox) ?_
  replace h := ga_bind_some h; obtain ⟨r8, D8, g8, h⟩ := h
  have hR8 := (h_J4_get_ok (G := G) hP5 g8)
  obtain ⟨hP8, hE8, -⟩ := id hR8
  refine hw_call (rest := []) hR8 (fun hc hk9 => x_callV (as := [(2, r5)]) (rest := []) dX3_root_8 hc (lw_V q5216 q4315 q4316 q403 q4317) (hkS (D := D5) (show ga_K 4108 = (61, 0) from by decide +kernel) (by decide)) rfl rfl (show _ ∧ _ ∧ _ ∧ _ = some 1 from by decide +kernel) (by decide) (by decide) rfl (Nat.le_of_ble_eq_true rfl) hk9 aw_nox) ?_
  replace h := ga_ck_some h; obtain ⟨hc11_0, h⟩ := h
  refine hw_1 (fun k => x_castL (L := [60]) dX3_root_11 q592 sbl_java_util_ArrayList (aw_or1 hc11_0) k) ?_
  refine hw_1 (fun k => x_astore_n (ls' := [(2, (2, r8)), (0, (2, 4098)), (1, (0, x1))]) dX3_root_14 (by decide) rfl k) ?_
  refine hw_1 (fun k => x_aload_n dX3_root_15 rfl k) ?_
  by_cases c16 : r8 ≠ 0
  · rw [if_pos c16] at h
    refine hw_1 (fun k => x_ifnonnull (tgt := 21) dX3_root_16 (by decide) (fun _ => k) (fun z => absurd c16 z)) ?_
    refine hw_1 (fun k => x_iconst dX3_root_21 (by decide) k) ?_
    refine hw_1 (fun k => x_istore_n (ls' := [(3, (0, 0)), (2, (2, r8)), (0, (2, 4098)), (1, (0, x1))]) dX3_root_22 (by decide) rfl k) ?_
    refine hw_1 (fun k => x_aload_n dX3_root_23 rfl k) ?_
    replace h := ga_ck_some h; obtain ⟨hc24_0, h⟩ := h
    replace h := ga_bind_some h; obtain ⟨r24, D24, g24, h⟩ := h
    have hR24 := (h_J2_iterator_ok (G := G) hP8 g24)
    obtain ⟨hP24, hE24, -⟩ := id hR24
    refine hw_call (rest := []) hR24 (fun hc hk9 => x_callV (as := []) (rest := []) dX3_root_24 hc (lw_V q6598 q2942 q2943 q401 q2944) hc24_0 rfl rfl (show _ ∧ _ ∧ _ ∧ _ = some 0 from by decide +kernel) (by decide) (by decide) rfl (Nat.le_of_ble_eq_true rfl) hk9 aw_nox) ?_
    refine hw_1 (fun k => x_astore (ls' := [(4, (2, r24)), (3, (0, 0)), (2, (2, r8)), (0, (2, 4098)), (1, (0, x1))]) dX3_root_27 (by decide) rfl k) ?_
    refine hw_locs [3, 1, 0] (ls' := [(0, (2, 4098)), (3, (0, 0)), (4, (2, r24))]) rfl ?_
    refine h_X3_root_l29_ok hq (fun x3 D74 hP h => ?_) hP24 h
    · refine h_X3_root_l74_ok hq (fun D180 hP h => ?_) hP h
      · refine hw_1 (fun k => x_iconst dX3_root_180 (by decide) k) ?_
        obtain ⟨rfl, rfl⟩ := ga_end h
        exact hw_ret hP (x_iret dX3_root_181 rfl rfl (show (0 : Int) ≤ 1 ∧ (1 : Int) < 2 from by decide) hq)
  · rw [if_neg c16] at h
    refine hw_1 (fun k => x_ifnonnull (tgt := 21) dX3_root_16 (by decide) (fun z => absurd z c16) (fun _ => k)) ?_
    refine hw_1 (fun k => x_iconst dX3_root_19 (by decide) k) ?_
    obtain ⟨rfl, rfl⟩ := ga_end h
    exact hw_ret hP8 (x_iret dX3_root_20 rfl rfl (show (0 : Int) ≤ 0 ∧ (0 : Int) < 2 from by decide) hq)
theorem h_X2_root_ok {G : aw_G} {D D' : ga_D} {r : Int} {x1 x2 : Int} (hP : h_P D) (h : h_X2_root x1 x2 D = some (r, D')) : aw_HR yX2_root cX2_root 3 (some (.int)) 6 G [(2, 4097), (0, x1), (0, x2)] D (some (0, r)) D' := by
  unfold h_X2_root at h
  refine hw_body (own := "WasteHouse$TicketChain") (ini := false) (ls := [(0, (2, 4097)), (1, (0, x1)), (2, (0, x2))]) rfl rfl (fun h => by cases h) (Nat.le_of_ble_eq_true rfl) rfl fun Q hq => ?_
  refine hw_1 (fun k => x_iload_n dX2_root_0 rfl k) ?_
  by_cases c1 : x2 < 0
  · rw [if_pos c1] at h
    refine hw_1 (fun k => x_if_lt (tgt := 21) dX2_root_1 (by decide) (fun _ => k) (fun z => absurd c1 z)) ?_
    refine hw_1 (fun k => x_iconst dX2_root_21 (by decide) k) ?_
    refine hw_1 (fun k => x_goto (tgt := 38) dX2_root_22 (by decide) k) ?_
    obtain ⟨rfl, rfl⟩ := ga_end h
    exact hw_ret hP (x_iret dX2_root_38 rfl rfl trivial hq)
  · rw [if_neg c1] at h
    refine hw_1 (fun k => x_if_lt (tgt := 21) dX2_root_1 (by decide) (fun z => absurd z c1) (fun _ => k)) ?_
    refine hw_1 (fun k => x_iload_n dX2_root_4 rfl k) ?_
    refine hw_1 (fun k => x_bipush dX2_root_5 (by decide) k) ?_
    by_cases c7 : 32 ≤ x2
    · rw [if_pos c7] at h
      refine hw_1 (fun k => x_icmp_ge (tgt := 21) dX2_root_7 (by decide) (fun _ => k) (fun z => absurd c7 z)) ?_
      refine hw_1 (fun k => x_iconst dX2_root_21 (by decide) k) ?_
      refine hw_1 (fun k => x_goto (tgt := 38) dX2_root_22 (by decide) k) ?_
      obtain ⟨rfl, rfl⟩ := ga_end h
      exact hw_ret hP (x_iret dX2_root_38 rfl rfl trivial hq)
    · rw [if_neg c7] at h
      refine hw_1 (fun k => x_icmp_ge (tgt := 21) dX2_root_7 (by decide) (fun z => absurd z c7) (fun _ => k)) ?_
      refine hw_1 (fun k => x_aload_n dX2_root_10 rfl k) ?_
      refine hw_1 (fun k => x_getf (v := 4098) dX2_root_11 fl_X2_10 (hkS (D := D) (show ga_K 4097 = (1, 0) from by decide +kernel) (by decide)) (hP.1 4097 0 4098 (by decide +kernel)) k) ?_
      refine hw_1 (fun k => x_iload_n dX2_root_14 rfl k) ?_
      replace h := ga_bind_some h; obtain ⟨r15, D15, g15, h⟩ := h
      have hR15 := (h_X3_root_ok (G := G) hP g15)
      obtain ⟨hP15, hE15, -⟩ := id hR15
      refine hw_call (rest := []) hR15 (fun hc hk9 => x_callV (as := [(0, x1)]) (rest := []) dX2_root_15 hc (lw_V q6594 q6595 q6596 q395 q6597) (hkS (D := D) (show ga_K 4098 = (2, 0) from by decide +kernel) (by decide)) rfl rfl (show _ ∧ _ ∧ _ ∧ _ = some 1 from by decide +kernel) (by decide) (by decide) rfl (Nat.le_of_ble_eq_true rfl) hk9 aw_nox) ?_
      by_cases c18 : r15 ≠ 0
      · rw [if_pos c18] at h
        refine hw_1 (fun k => x_if_ne (tgt := 25) dX2_root_18 (by decide) (fun _ => k) (fun z => absurd c18 z)) ?_
        refine hw_1 (fun k => x_aload_n dX2_root_25 rfl k) ?_
        refine hw_1 (fun k => x_getf (v := 4098) dX2_root_26 fl_X2_10 (hkS (D := D15) (show ga_K 4097 = (1, 0) from by decide +kernel) (by decide)) (hP15.1 4097 0 4098 (by decide +kernel)) k) ?_
        refine hw_1 (fun k => x_getfN (v := 4110) dX2_root_29 fl_X2_184 (hkS (D := D15) (show ga_K 4098 = (2, 0) from by decide +kernel) (by decide)) (hP15.1 4098 5 4110 (by decide +kernel)) k) ?_
        refine hw_1 (fun k => x_iload_n dX2_root_32 rfl k) ?_
        replace h := ga_ck_some h; obtain ⟨hc33_0, h⟩ := h
        refine hw_1 (fun k => x_bald (v := D15 4110 x2) dX2_root_33 (hkS (D := D15) (show ga_K 4110 = (1002, 6400) from by decide +kernel) (by decide)) hc33_0.1 hc33_0.2 rfl k) ?_
        refine hw_1 (fun k => x_sipush dX2_root_34 (by decide) k) ?_
        refine hw_1 (fun k => x_iand dX2_root_37 rfl k) ?_
        obtain ⟨rfl, rfl⟩ := ga_end h
        exact hw_ret hP15 (x_iret dX2_root_38 rfl rfl trivial hq)
      · rw [if_neg c18] at h
        refine hw_1 (fun k => x_if_ne (tgt := 25) dX2_root_18 (by decide) (fun z => absurd z c18) (fun _ => k)) ?_
        refine hw_1 (fun k => x_iconst dX2_root_21 (by decide) k) ?_
        refine hw_1 (fun k => x_goto (tgt := 38) dX2_root_22 (by decide) k) ?_
        obtain ⟨rfl, rfl⟩ := ga_end h
        exact hw_ret hP15 (x_iret dX2_root_38 rfl rfl trivial hq)
