theorem fl_X31_7 : aw_Fl "WasteHouse$PurityOdds" 7 28 1 2 := ⟨aw_q28, "WasteHouse$PurityOdds", rfl, by decide, q1712, Or.inl rfl, rfl⟩
theorem fl_X31_13 : aw_Fl "WasteHouse$PurityOdds" 13 28 2 2 := ⟨aw_q28, "WasteHouse$PurityOdds", rfl, by decide, q1713, Or.inl rfl, rfl⟩
theorem fl_X31_18 : aw_Fl "WasteHouse$PurityOdds" 18 28 4 2 := ⟨aw_q28, "WasteHouse$PurityOdds", rfl, by decide, q1715, Or.inl rfl, rfl⟩
theorem fl_X31_24 : aw_Fl "WasteHouse$PurityOdds" 24 28 6 2 := ⟨aw_q28, "WasteHouse$PurityOdds", rfl, by decide, q1718, Or.inl rfl, rfl⟩
theorem fl_X31_28 : aw_Fl "WasteHouse$PurityOdds" 28 28 7 2 := ⟨aw_q28, "WasteHouse$PurityOdds", rfl, by decide, q1719, Or.inl rfl, rfl⟩
theorem fl_X31_32 : aw_Fl "WasteHouse$PurityOdds" 32 28 9 2 := ⟨aw_q28, "WasteHouse$PurityOdds", rfl, by decide, q1721, Or.inl rfl, rfl⟩
theorem fl_X31_36 : aw_Fl "WasteHouse$PurityOdds" 36 28 10 2 := ⟨aw_q28, "WasteHouse$PurityOdds", rfl, by decide, q1722, Or.inl rfl, rfl⟩
theorem fl_X31_39 : aw_Fl "WasteHouse$PurityOdds" 39 28 12 2 := ⟨aw_q28, "WasteHouse$PurityOdds", rfl, by decide, q1724, Or.inl rfl, rfl⟩
theorem fl_X31_43 : aw_Fl "WasteHouse$PurityOdds" 43 28 13 2 := ⟨aw_q28, "WasteHouse$PurityOdds", rfl, by decide, q1725, Or.inl rfl, rfl⟩
theorem fl_X31_46 : aw_Fl "WasteHouse$PurityOdds" 46 28 14 2 := ⟨aw_q28, "WasteHouse$PurityOdds", rfl, by decide, q1726, Or.inl rfl, rfl⟩
theorem fl_X31_49 : aw_Fl "WasteHouse$PurityOdds" 49 28 15 2 := ⟨aw_q28, "WasteHouse$PurityOdds", rfl, by decide, q1727, Or.inl rfl, rfl⟩
theorem fl_X31_52 : aw_Fl "WasteHouse$PurityOdds" 52 28 0 1 := ⟨aw_q28, "WasteHouse$PurityOdds", rfl, by decide, q1711, Or.inl rfl, rfl⟩
theorem fl_X31_61 : aw_Fl "WasteHouse$PurityOdds" 61 28 3 0 := ⟨aw_q28, "WasteHouse$PurityOdds", rfl, by decide, q1714, Or.inl rfl, rfl⟩
theorem fl_X31_90 : aw_Fl "WasteHouse$PurityOdds" 90 29 0 1 := ⟨aw_q29, "WasteHouse$PurityOdds$Ratio", rfl, by decide, q1650, Or.inl rfl, rfl⟩
theorem fl_X31_93 : aw_Fl "WasteHouse$PurityOdds" 93 29 1 1 := ⟨aw_q29, "WasteHouse$PurityOdds$Ratio", rfl, by decide, q1652, Or.inl rfl, rfl⟩
theorem fl_X31_96 : aw_Fl "WasteHouse$PurityOdds" 96 28 11 0 := ⟨aw_q28, "WasteHouse$PurityOdds", rfl, by decide, q1723, Or.inl rfl, rfl⟩
theorem fl_X31_112 : aw_Fl "WasteHouse$PurityOdds" 112 28 5 0 := ⟨aw_q28, "WasteHouse$PurityOdds", rfl, by decide, q1717, Or.inl rfl, rfl⟩
theorem fl_X31_117 : aw_Fl "WasteHouse$PurityOdds" 117 30 0 1 := ⟨aw_q30, "WasteHouse$PurityOdds$Lot", rfl, by decide, q1666, Or.inl rfl, rfl⟩
theorem fl_X31_133 : aw_Fl "WasteHouse$PurityOdds" 133 30 3 0 := ⟨aw_q30, "WasteHouse$PurityOdds$Lot", rfl, by decide, q1671, Or.inl rfl, rfl⟩
theorem fl_X31_136 : aw_Fl "WasteHouse$PurityOdds" 136 30 1 2 := ⟨aw_q30, "WasteHouse$PurityOdds$Lot", rfl, by decide, q1668, Or.inl rfl, rfl⟩
theorem fl_X31_139 : aw_Fl "WasteHouse$PurityOdds" 139 30 2 2 := ⟨aw_q30, "WasteHouse$PurityOdds$Lot", rfl, by decide, q1670, Or.inl rfl, rfl⟩
theorem fl_X31_142 : aw_Fl "WasteHouse$PurityOdds" 142 30 4 2 := ⟨aw_q30, "WasteHouse$PurityOdds$Lot", rfl, by decide, q1673, Or.inl rfl, rfl⟩
theorem fl_X31_145 : aw_Fl "WasteHouse$PurityOdds" 145 30 5 1 := ⟨aw_q30, "WasteHouse$PurityOdds$Lot", rfl, by decide, q1674, Or.inl rfl, rfl⟩
theorem fl_X31_152 : aw_Fl "WasteHouse$PurityOdds" 152 28 8 0 := ⟨aw_q28, "WasteHouse$PurityOdds", rfl, by decide, q1720, Or.inl rfl, rfl⟩
theorem fl_X31_155 : aw_Fl "WasteHouse$PurityOdds" 155 30 6 0 := ⟨aw_q30, "WasteHouse$PurityOdds$Lot", rfl, by decide, q1675, Or.inl rfl, rfl⟩
theorem fl_X31_158 : aw_Fl "WasteHouse$PurityOdds" 158 30 7 2 := ⟨aw_q30, "WasteHouse$PurityOdds$Lot", rfl, by decide, q1677, Or.inl rfl, rfl⟩
theorem fl_X31_173 : aw_Fl "WasteHouse$PurityOdds" 173 30 11 2 := ⟨aw_q30, "WasteHouse$PurityOdds$Lot", rfl, by decide, q1685, Or.inl rfl, rfl⟩
theorem fl_X31_177 : aw_Fl "WasteHouse$PurityOdds" 177 30 10 0 := ⟨aw_q30, "WasteHouse$PurityOdds$Lot", rfl, by decide, q1683, Or.inl rfl, rfl⟩
theorem fl_X31_180 : aw_Fl "WasteHouse$PurityOdds" 180 30 8 2 := ⟨aw_q30, "WasteHouse$PurityOdds$Lot", rfl, by decide, q1679, Or.inl rfl, rfl⟩
theorem fl_X31_183 : aw_Fl "WasteHouse$PurityOdds" 183 30 9 2 := ⟨aw_q30, "WasteHouse$PurityOdds$Lot", rfl, by decide, q1681, Or.inl rfl, rfl⟩
theorem fl_X32_9 : aw_Fl "WasteHouse$PurityOdds$Ratio" 9 29 1 1 := ⟨aw_q29, "WasteHouse$PurityOdds$Ratio", rfl, by decide, q1651, Or.inl rfl, rfl⟩
theorem fl_X32_15 : aw_Fl "WasteHouse$PurityOdds$Ratio" 15 29 0 1 := ⟨aw_q29, "WasteHouse$PurityOdds$Ratio", rfl, by decide, q1649, Or.inl rfl, rfl⟩
theorem fl_X33_32 : aw_Fl "WasteHouse$PurityOdds$Lot" 32 30 9 2 := ⟨aw_q30, "WasteHouse$PurityOdds$Lot", rfl, by decide, q1680, Or.inl rfl, rfl⟩
theorem fl_X33_35 : aw_Fl "WasteHouse$PurityOdds$Lot" 35 30 11 2 := ⟨aw_q30, "WasteHouse$PurityOdds$Lot", rfl, by decide, q1684, Or.inl rfl, rfl⟩
theorem fl_X33_43 : aw_Fl "WasteHouse$PurityOdds$Lot" 43 30 10 0 := ⟨aw_q30, "WasteHouse$PurityOdds$Lot", rfl, by decide, q1682, Or.inl rfl, rfl⟩
theorem g_X31_isIn_ok {G : aw_G} {Mz : aw_M} {D D' : ga_D} {r : Int} {x0 x2 x4 : Int} (hS : aw_St Mz) (hP : ga_P D) (h : g_X31_isIn x0 x2 x4 D = some (r, D')) : aw_Runs yX31_isIn cX31_isIn 6 (some (.boolean)) 1 0 0 G [(1, x0), (1, x2), (1, x4)] (aw_wD Mz D) (aw_isP (some (0, r)) (aw_wD Mz D')) aw_no := by
  unfold g_X31_isIn at h
  refine aw_body (own := "WasteHouse$PurityOdds") (ini := false) (ls := [(0, (1, x0)), (2, (1, x2)), (4, (1, x4))]) rfl rfl (fun h => by cases h) (Nat.le_of_ble_eq_true rfl) rfl ?_
  generalize hQ : aw_isP (some (0, r)) (aw_wD Mz D') = Q
  have hq : ga_P D' → Q (some (0, r)) (aw_wD Mz D') := by rw [← hQ]; exact fun hP => ⟨rfl, rfl, hP⟩
  clear hQ
  refine x_lload_n dX31_isIn_0 rfl ?_
  refine x_lload_n dX31_isIn_1 rfl ?_
  refine x_lcmp dX31_isIn_2 rfl ?_
  refine x_if_lt (tgt := 17) dX31_isIn_3 (by decide) (fun c3 => ?_) (fun c3 => ?_)
  · rw [if_pos (cmi_lt.mp c3)] at h
    refine x_iconst dX31_isIn_17 (by decide) ?_
    obtain ⟨rfl, rfl⟩ := ga_end h
    exact x_iret dX31_isIn_18 rfl rfl (show (0 : Int) ≤ 0 ∧ (0 : Int) < 2 from by decide) (hq hP)
  · rw [if_neg (fun q => c3 (cmi_lt.mpr q))] at h
    refine x_lload_n dX31_isIn_6 rfl ?_
    refine x_lload dX31_isIn_7 rfl ?_
    refine x_lcmp dX31_isIn_9 rfl ?_
    refine x_if_gt (tgt := 17) dX31_isIn_10 (by decide) (fun c10 => ?_) (fun c10 => ?_)
    · rw [if_pos (cmi_gt.mp c10)] at h
      refine x_iconst dX31_isIn_17 (by decide) ?_
      obtain ⟨rfl, rfl⟩ := ga_end h
      exact x_iret dX31_isIn_18 rfl rfl (show (0 : Int) ≤ 0 ∧ (0 : Int) < 2 from by decide) (hq hP)
    · rw [if_neg (fun q => c10 (cmi_gt.mpr q))] at h
      refine x_iconst dX31_isIn_13 (by decide) ?_
      refine x_goto (tgt := 18) dX31_isIn_14 (by decide) ?_
      obtain ⟨rfl, rfl⟩ := ga_end h
      exact x_iret dX31_isIn_18 rfl rfl (show (0 : Int) ≤ 1 ∧ (1 : Int) < 2 from by decide) (hq hP)
theorem g_X33_draw_l2_ok {G : aw_G} {M0 Mz : aw_M} {D' : ga_D} {Q : Option aw_V → aw_M → Prop} {r : Int} (hS : aw_St Mz) (hq : ga_P D' → Q none (aw_wD Mz D')) {k22 : Int → Int → ga_D → ga_S} (hk22 : ∀ (x0 x1 : Int) (D : ga_D), ga_P D → k22 x0 x1 D = some (r, D') → aw_W G "WasteHouse$PurityOdds$Lot" cX33_draw none 8 1 false M0 Q aw_no 0 0 22 [(0, (2, x0)), (1, (1, x1))] [] (aw_wD Mz D)) : ∀ {n : Nat} {x0 x1 x3 : Int} {D : ga_D}, ga_P D → g_X33_draw_l2 n x0 x1 x3 D k22 = some (r, D') → aw_W G "WasteHouse$PurityOdds$Lot" cX33_draw none 8 1 false M0 Q aw_no 0 0 2 [(0, (2, x0)), (1, (1, x1)), (3, (0, x3))] [] (aw_wD Mz D) := by
  intro n
  induction n with
  | zero => intro x0 x1 x3 D hP h; exact absurd (h : (none : ga_S) = some (r, D')) (by intro h; cases h)
  | succ n ih =>
    intro x0 x1 x3 D hP h
    have ih : ∀ (x0 x1 x3 : Int) (D : ga_D), ga_P D → g_X33_draw_l2 n x0 x1 x3 D k22 = some (r, D') → aw_W G "WasteHouse$PurityOdds$Lot" cX33_draw none 8 1 false M0 Q aw_no 0 0 2 [(0, (2, x0)), (1, (1, x1)), (3, (0, x3))] [] (aw_wD Mz D) := fun x0 x1 x3 D hP h => ih hP h
    replace h : (if 100 ≤ x3 then (k22 x0 x1 D) else (ga_ck (ga_K x0 = (30, 0)) (ga_ck (0 ≤ x3 ∧ x3 < 100 ∧ (-128) ≤ aw_i2b x3 ∧ aw_i2b x3 < 128) (ga_let (ga_set D ((x0 + 7)) x3 (aw_i2b x3)) (fun D15 => ga_let (aw_w32 (x3 + 1)) (fun v16 => g_X33_draw_l2 n x0 x1 v16 D15 k22))))) : ga_S) = some (r, D') := h
    refine x_iload_n dX33_draw_2 rfl ?_
    refine x_bipush dX33_draw_3 (by decide) ?_
    refine x_icmp_ge (tgt := 22) dX33_draw_5 (by decide) (fun c5 => ?_) (fun c5 => ?_)
    · rw [if_pos c5] at h
      refine x_locs [0, 1] (ls' := [(0, (2, x0)), (1, (1, x1))]) rfl ?_
      exact hk22 _ _ _ hP h
    · rw [if_neg c5] at h
      refine x_aload_n dX33_draw_8 rfl ?_
      replace h := ga_ck_some h; obtain ⟨hk9_0, h⟩ := h
      refine x_getf (v := (x0 + 7)) dX33_draw_9 fl_X33_35 (aw_kS hS hk9_0 (by decide)) (O_30_11 hP hk9_0) ?_
      refine x_iload_n dX33_draw_12 rfl ?_
      refine x_iload_n dX33_draw_13 rfl ?_
      refine x_i2b dX33_draw_14 rfl ?_
      replace h := ga_ck_some h; obtain ⟨ha15, h⟩ := h
      replace h := ga_let_some h; obtain ⟨D15, eD15, h⟩ := h
      refine x_bast dX33_draw_15 (aw_kS hS (KO_30_7 hk9_0) (by decide)) (by have := ga_ge hk9_0 rfl; omega) ha15.1 ha15.2.1 ha15.2.2 ?_
      refine x_nmD eD15 ?_
      have hP15 : ga_P D15 := ga_Pset eD15 hP (ga_Pn (KO_30_7 hk9_0) rfl)
      replace h := ga_let_some h; obtain ⟨v16, ev16, h⟩ := h
      refine x_iinc (ls' := [(3, (0, v16)), (0, (2, x0)), (1, (1, x1))]) dX33_draw_16 rfl ev16.symm (by decide) rfl ?_
      refine x_goto (tgt := 2) dX33_draw_19 (by decide) ?_
      refine x_locs [1, 2, 0] (ls' := [(0, (2, x0)), (1, (1, x1)), (3, (0, v16))]) rfl ?_
      exact ih _ _ _ _ hP15 h
theorem g_X33_draw_l28_ok {G : aw_G} {M0 Mz : aw_M} {D' : ga_D} {Q : Option aw_V → aw_M → Prop} {r : Int} (hS : aw_St Mz) (hq : ga_P D' → Q none (aw_wD Mz D')) {k94 : ga_D → ga_S} (hk94 : ∀ (D : ga_D), ga_P D → k94 D = some (r, D') → aw_W G "WasteHouse$PurityOdds$Lot" cX33_draw none 8 1 false M0 Q aw_no 0 0 94 [] [] (aw_wD Mz D)) : ∀ {n : Nat} {x0 x3 x5 : Int} {D : ga_D}, ga_P D → g_X33_draw_l28 n x0 x3 x5 D k94 = some (r, D') → aw_W G "WasteHouse$PurityOdds$Lot" cX33_draw none 8 1 false M0 Q aw_no 0 0 28 [(0, (2, x0)), (3, (1, x3)), (5, (0, x5))] [] (aw_wD Mz D) := by
  intro n
  induction n with
  | zero => intro x0 x3 x5 D hP h; exact absurd (h : (none : ga_S) = some (r, D')) (by intro h; cases h)
  | succ n ih =>
    intro x0 x3 x5 D hP h
    have ih : ∀ (x0 x3 x5 : Int) (D : ga_D), ga_P D → g_X33_draw_l28 n x0 x3 x5 D k94 = some (r, D') → aw_W G "WasteHouse$PurityOdds$Lot" cX33_draw none 8 1 false M0 Q aw_no 0 0 28 [(0, (2, x0)), (3, (1, x3)), (5, (0, x5))] [] (aw_wD Mz D) := fun x0 x3 x5 D hP h => ih hP h
    replace h : (if x5 ≤ 0 then (k94 D) else (ga_let (aw_w64 ((aw_w64 (x3 * 6364136223846793005)) + 1442695040888963407)) (fun v42 => ga_ck (aw_w32 (x5 + 1) ≠ 0) (ga_let (aw_w32 (Int.tmod (aw_lushr v42 33) (aw_w32 (x5 + 1)))) (fun v54 => ga_ck (ga_K x0 = (30, 0)) (ga_ck (0 ≤ x5 ∧ x5 < 100) (ga_let (D ((x0 + 7)) x5) (fun v63 => ga_ck (0 ≤ v54 ∧ v54 < 100) (ga_ck (0 ≤ x5 ∧ x5 < 100 ∧ (-128) ≤ D ((x0 + 7)) v54 ∧ D ((x0 + 7)) v54 < 128) (ga_let (ga_set D ((x0 + 7)) x5 (D ((x0 + 7)) v54)) (fun D78 => ga_ck (0 ≤ v54 ∧ v54 < 100 ∧ (-128) ≤ v63 ∧ v63 < 128) (ga_let (ga_set D78 ((x0 + 7)) v54 v63) (fun D87 => ga_let (aw_w32 (x5 + (-1))) (fun v88 => g_X33_draw_l28 n x0 v42 v88 D87 k94))))))))))))) : ga_S) = some (r, D') := h
    refine x_iload dX33_draw_28 rfl ?_
    refine x_if_le (tgt := 94) dX33_draw_30 (by decide) (fun c30 => ?_) (fun c30 => ?_)
    · rw [if_pos c30] at h
      refine x_locs [] (ls' := []) rfl ?_
      exact hk94 _ hP h
    · rw [if_neg c30] at h
      refine x_lload_n dX33_draw_33 rfl ?_
      refine x_ldc2 (z := 6364136223846793005) dX33_draw_34 q5411 (by decide) ?_
      refine x_lmul dX33_draw_37 rfl ?_
      refine x_ldc2 (z := 1442695040888963407) dX33_draw_38 q5412 (by decide) ?_
      refine x_ladd dX33_draw_41 rfl ?_
      replace h := ga_let_some h; obtain ⟨v42, ev42, h⟩ := h
      refine x_nm ev42 ?_
      refine x_lstore_n (ls' := [(3, (1, v42)), (0, (2, x0)), (5, (0, x5))]) dX33_draw_42 (by decide) rfl ?_
      refine x_lload_n dX33_draw_43 rfl ?_
      refine x_bipush dX33_draw_44 (by decide) ?_
      refine x_lushr dX33_draw_46 rfl ?_
      refine x_iload dX33_draw_47 rfl ?_
      refine x_iconst dX33_draw_49 (by decide) ?_
      refine x_iadd dX33_draw_50 rfl ?_
      refine x_i2l dX33_draw_51 rfl ?_
      replace h := ga_ck_some h; obtain ⟨hz52, h⟩ := h
      refine x_lrem dX33_draw_52 hz52 rfl ?_
      refine x_l2i dX33_draw_53 rfl ?_
      replace h := ga_let_some h; obtain ⟨v54, ev54, h⟩ := h
      refine x_nm ev54 ?_
      refine x_istore (ls' := [(6, (0, v54)), (3, (1, v42)), (0, (2, x0)), (5, (0, x5))]) dX33_draw_54 (by decide) rfl ?_
      refine x_aload_n dX33_draw_56 rfl ?_
      replace h := ga_ck_some h; obtain ⟨hk57_0, h⟩ := h
      refine x_getf (v := (x0 + 7)) dX33_draw_57 fl_X33_35 (aw_kS hS hk57_0 (by decide)) (O_30_11 hP hk57_0) ?_
      refine x_iload dX33_draw_60 rfl ?_
      replace h := ga_ck_some h; obtain ⟨ha62, h⟩ := h
      refine x_bald (v := D ((x0 + 7)) x5) dX33_draw_62 (aw_kS hS (KO_30_7 hk57_0) (by decide)) ha62.1 ha62.2 rfl ?_
      replace h := ga_let_some h; obtain ⟨v63, ev63, h⟩ := h
      refine x_nm ev63 ?_
      refine x_istore (ls' := [(7, (0, v63)), (6, (0, v54)), (3, (1, v42)), (0, (2, x0)), (5, (0, x5))]) dX33_draw_63 (by decide) rfl ?_
      refine x_aload_n dX33_draw_65 rfl ?_
      refine x_getf (v := (x0 + 7)) dX33_draw_66 fl_X33_35 (aw_kS hS hk57_0 (by decide)) (O_30_11 hP hk57_0) ?_
      refine x_iload dX33_draw_69 rfl ?_
      refine x_aload_n dX33_draw_71 rfl ?_
      refine x_getf (v := (x0 + 7)) dX33_draw_72 fl_X33_35 (aw_kS hS hk57_0 (by decide)) (O_30_11 hP hk57_0) ?_
      refine x_iload dX33_draw_75 rfl ?_
      replace h := ga_ck_some h; obtain ⟨ha77, h⟩ := h
      refine x_bald (v := D ((x0 + 7)) v54) dX33_draw_77 (aw_kS hS (KO_30_7 hk57_0) (by decide)) ha77.1 ha77.2 rfl ?_
      replace h := ga_ck_some h; obtain ⟨ha78, h⟩ := h
      replace h := ga_let_some h; obtain ⟨D78, eD78, h⟩ := h
      refine x_bast dX33_draw_78 (aw_kS hS (KO_30_7 hk57_0) (by decide)) (by have := ga_ge hk57_0 rfl; omega) ha78.1 ha78.2.1 ha78.2.2 ?_
      refine x_nmD eD78 ?_
      have hP78 : ga_P D78 := ga_Pset eD78 hP (ga_Pn (KO_30_7 hk57_0) rfl)
      refine x_aload_n dX33_draw_79 rfl ?_
      refine x_getf (v := (x0 + 7)) dX33_draw_80 fl_X33_35 (aw_kS hS hk57_0 (by decide)) (O_30_11 hP78 hk57_0) ?_
      refine x_iload dX33_draw_83 rfl ?_
      refine x_iload dX33_draw_85 rfl ?_
      replace h := ga_ck_some h; obtain ⟨ha87, h⟩ := h
      replace h := ga_let_some h; obtain ⟨D87, eD87, h⟩ := h
      refine x_bast dX33_draw_87 (aw_kS hS (KO_30_7 hk57_0) (by decide)) (by have := ga_ge hk57_0 rfl; omega) ha87.1 ha87.2.1 ha87.2.2 ?_
      refine x_nmD eD87 ?_
      have hP87 : ga_P D87 := ga_Pset eD87 hP78 (ga_Pn (KO_30_7 hk57_0) rfl)
      replace h := ga_let_some h; obtain ⟨v88, ev88, h⟩ := h
      refine x_iinc (ls' := [(5, (0, v88)), (7, (0, v63)), (6, (0, v54)), (3, (1, v42)), (0, (2, x0))]) dX33_draw_88 rfl ev88.symm (by decide) rfl ?_
      refine x_goto (tgt := 28) dX33_draw_91 (by decide) ?_
      refine x_locs [4, 3, 0] (ls' := [(0, (2, x0)), (3, (1, v42)), (5, (0, v88))]) rfl ?_
      exact ih _ _ _ _ hP87 h
theorem g_X33_draw_ok {G : aw_G} {Mz : aw_M} {D D' : ga_D} {r : Int} {x0 x1 : Int} (hS : aw_St Mz) (hP : ga_P D) (h : g_X33_draw x0 x1 D = some (r, D')) : aw_Runs yX33_draw cX33_draw 8 none 1 0 0 G [(2, x0), (1, x1)] (aw_wD Mz D) (aw_isP none (aw_wD Mz D')) aw_no := by
  unfold g_X33_draw at h
  refine aw_body (own := "WasteHouse$PurityOdds$Lot") (ini := false) (ls := [(0, (2, x0)), (1, (1, x1))]) rfl rfl (fun h => by cases h) (Nat.le_of_ble_eq_true rfl) rfl ?_
  generalize hQ : aw_isP none (aw_wD Mz D') = Q
  have hq : ga_P D' → Q none (aw_wD Mz D') := by rw [← hQ]; exact fun hP => ⟨rfl, rfl, hP⟩
  clear hQ
  refine x_iconst dX33_draw_0 (by decide) ?_
  refine x_istore_n (ls' := [(3, (0, 0)), (0, (2, x0)), (1, (1, x1))]) dX33_draw_1 (by decide) rfl ?_
  refine x_locs [1, 2, 0] (ls' := [(0, (2, x0)), (1, (1, x1)), (3, (0, 0))]) rfl ?_
  refine g_X33_draw_l2_ok hS hq (fun x0 x1 D22 hP h => ?_) hP h
  · refine x_lload_n dX33_draw_22 rfl ?_
    refine x_lstore_n (ls' := [(3, (1, x1)), (0, (2, x0)), (1, (1, x1))]) dX33_draw_23 (by decide) rfl ?_
    refine x_bipush dX33_draw_24 (by decide) ?_
    refine x_istore (ls' := [(5, (0, 99)), (3, (1, x1)), (0, (2, x0)), (1, (1, x1))]) dX33_draw_26 (by decide) rfl ?_
    refine x_locs [2, 1, 0] (ls' := [(0, (2, x0)), (3, (1, x1)), (5, (0, 99))]) rfl ?_
    refine g_X33_draw_l28_ok hS hq (fun D94 hP h => ?_) hP h
    · obtain ⟨rfl, rfl⟩ := ga_end h
      exact x_vret dX33_draw_94 rfl (hq hP)
theorem g_X31_lot_ok {G : aw_G} {Mz : aw_M} {D D' : ga_D} {r : Int} {x1 : Int} (hS : aw_St Mz) (hP : ga_P D) (h : g_X31_lot x1 D = some (r, D')) : aw_Runs yX31_lot cX31_lot 4 (some (.int)) 2 0 0 G [(2, 4956), (1, x1)] (aw_wD Mz D) (aw_isP (some (0, r)) (aw_wD Mz D')) aw_no := by
  unfold g_X31_lot at h
  refine aw_body (own := "WasteHouse$PurityOdds") (ini := false) (ls := [(0, (2, 4956)), (1, (1, x1))]) rfl rfl (fun h => by cases h) (Nat.le_of_ble_eq_true rfl) rfl ?_
  generalize hQ : aw_isP (some (0, r)) (aw_wD Mz D') = Q
  have hq : ga_P D' → Q (some (0, r)) (aw_wD Mz D') := by rw [← hQ]; exact fun hP => ⟨rfl, rfl, hP⟩
  clear hQ
  refine x_aload_n dX31_lot_0 rfl ?_
  refine x_getf (v := D 4956 5) dX31_lot_1 fl_X31_112 (aw_kS hS K_4956 (by decide)) rfl ?_
  refine x_bipush dX31_lot_4 (by decide) ?_
  refine x_icmp_eq (tgt := 20) dX31_lot_6 (by decide) (fun c6 => ?_) (fun c6 => ?_)
  · rw [if_pos c6] at h
    refine x_iconst dX31_lot_20 (by decide) ?_
    obtain ⟨rfl, rfl⟩ := ga_end h
    exact x_iret dX31_lot_21 rfl rfl trivial (hq hP)
  · rw [if_neg c6] at h
    refine x_lload_n dX31_lot_9 rfl ?_
    refine x_lconst (v := 1) dX31_lot_10 rfl ?_
    refine x_ldc2 (z := 1000000000) dX31_lot_11 q5402 (by decide) ?_
    replace h := ga_bind_some h; obtain ⟨r14, D14, g14, h⟩ := h
    refine x_callS (c := 0) (sl := 0) (as := [(1, x1), (1, 1), (1, 1000000000)]) (rest := []) dX31_lot_14 (g_X31_isIn_ok hS hP g14) (lw_S q5403 q5404 q430 q5405) (show _ ∧ _ ∧ _ = some 3 from by decide +kernel) (by decide) (by decide) rfl (Nat.le_of_ble_eq_true rfl) ?_ aw_nox
    rintro _ _ ⟨rfl, rfl, hP14⟩ hx14
    refine x_if_ne (tgt := 22) dX31_lot_17 (by decide) (fun c17 => ?_) (fun c17 => ?_)
    · rw [if_pos c17] at h
      refine x_aload_n dX31_lot_22 rfl ?_
      refine x_getf (v := 4959) dX31_lot_23 fl_X31_18 (aw_kS hS K_4956 (by decide)) (P_4956_4 hP14) ?_
      refine x_aload_n dX31_lot_26 rfl ?_
      refine x_getf (v := D14 4956 5) dX31_lot_27 fl_X31_112 (aw_kS hS K_4956 (by decide)) rfl ?_
      replace h := ga_ck_some h; obtain ⟨ha30, h⟩ := h
      refine x_aald (t := 14) (v := (8 * (D14 4956 5) + 4968)) dX31_lot_30 (aw_kS hS K_4959 (by decide)) rfl rfl ha30.1 ha30.2 (E_4959 hP14 ha30.1 ha30.2) ?_
      refine x_astore_n (ls' := [(3, (2, (8 * (D14 4956 5) + 4968))), (0, (2, 4956)), (1, (1, x1))]) dX31_lot_31 (by decide) rfl ?_
      refine x_aload_n dX31_lot_32 rfl ?_
      refine x_lload_n dX31_lot_33 rfl ?_
      replace h := ga_let_some h; obtain ⟨D34, eD34, h⟩ := h
      refine x_putf dX31_lot_34 fl_X31_117 rfl (aw_kS hS (KE_4959 ha30.1 ha30.2) (by decide)) (ga_ge (KE_4959 ha30.1 ha30.2) rfl) trivial ?_
      refine x_nmD eD34 ?_
      have hP34 : ga_P D34 := ga_Pset eD34 hP14 (ga_Pn (KE_4959 ha30.1 ha30.2) rfl)
      refine x_aload_n dX31_lot_37 rfl ?_
      refine x_aload_n dX31_lot_38 rfl ?_
      refine x_getf (v := D34 4956 0) dX31_lot_39 fl_X31_52 (aw_kS hS K_4956 (by decide)) rfl ?_
      refine x_ldc2 (z := 1000003) dX31_lot_42 q5406 (by decide) ?_
      refine x_aload_n dX31_lot_45 rfl ?_
      refine x_getf (v := D34 4956 5) dX31_lot_46 fl_X31_112 (aw_kS hS K_4956 (by decide)) rfl ?_
      refine x_i2l dX31_lot_49 rfl ?_
      refine x_lmul dX31_lot_50 rfl ?_
      refine x_ladd dX31_lot_51 rfl ?_
      replace h := ga_bind_some h; obtain ⟨r52, D52, g52, h⟩ := h
      refine x_callV (c := 0) (sl := 0) (as := [(1, aw_w64 ((D34 4956 0) + (aw_w64 (1000003 * (D34 4956 5)))))]) (rest := []) dX31_lot_52 (g_X33_draw_ok hS hP34 g52) (lw_V q5407 q5408 q5409 q432 q5410) (aw_kS hS (KE_4959 ha30.1 ha30.2) (by decide)) rfl rfl (show _ ∧ _ ∧ _ ∧ _ = some 1 from by decide +kernel) (by decide) (by decide) rfl (Nat.le_of_ble_eq_true rfl) ?_ aw_nox
      rintro _ _ ⟨rfl, rfl, hP52⟩ hx52
      refine x_aload_n dX31_lot_55 rfl ?_
      refine x_dup dX31_lot_56 rfl ?_
      refine x_getf (v := D52 4956 5) dX31_lot_57 fl_X31_112 (aw_kS hS K_4956 (by decide)) rfl ?_
      refine x_dup_x1 dX31_lot_60 rfl rfl ?_
      refine x_iconst dX31_lot_61 (by decide) ?_
      refine x_iadd dX31_lot_62 rfl ?_
      replace h := ga_let_some h; obtain ⟨D63, eD63, h⟩ := h
      refine x_putf dX31_lot_63 fl_X31_112 rfl (aw_kS hS K_4956 (by decide)) (by decide) trivial ?_
      refine x_nmD eD63 ?_
      have hP63 : ga_P D63 := ga_Pset eD63 hP52 (ga_Pn K_4956 rfl)
      obtain ⟨rfl, rfl⟩ := ga_end h
      exact x_iret dX31_lot_66 rfl rfl trivial (hq hP63)
    · rw [if_neg c17] at h
      refine x_iconst dX31_lot_20 (by decide) ?_
      obtain ⟨rfl, rfl⟩ := ga_end h
      exact x_iret dX31_lot_21 rfl rfl trivial (hq hP14)
theorem g_X31_isLot_ok {G : aw_G} {Mz : aw_M} {D D' : ga_D} {r : Int} {x1 : Int} (hS : aw_St Mz) (hP : ga_P D) (h : g_X31_isLot x1 D = some (r, D')) : aw_Runs yX31_isLot cX31_isLot 2 (some (.boolean)) 1 0 0 G [(2, 4956), (0, x1)] (aw_wD Mz D) (aw_isP (some (0, r)) (aw_wD Mz D')) aw_no := by
  unfold g_X31_isLot at h
  refine aw_body (own := "WasteHouse$PurityOdds") (ini := false) (ls := [(0, (2, 4956)), (1, (0, x1))]) rfl rfl (fun h => by cases h) (Nat.le_of_ble_eq_true rfl) rfl ?_
  generalize hQ : aw_isP (some (0, r)) (aw_wD Mz D') = Q
  have hq : ga_P D' → Q (some (0, r)) (aw_wD Mz D') := by rw [← hQ]; exact fun hP => ⟨rfl, rfl, hP⟩
  clear hQ
  refine x_iload_n dX31_isLot_0 rfl ?_
  refine x_if_lt (tgt := 16) dX31_isLot_1 (by decide) (fun c1 => ?_) (fun c1 => ?_)
  · rw [if_pos c1] at h
    refine x_iconst dX31_isLot_16 (by decide) ?_
    obtain ⟨rfl, rfl⟩ := ga_end h
    exact x_iret dX31_isLot_17 rfl rfl (show (0 : Int) ≤ 0 ∧ (0 : Int) < 2 from by decide) (hq hP)
  · rw [if_neg c1] at h
    refine x_iload_n dX31_isLot_4 rfl ?_
    refine x_aload_n dX31_isLot_5 rfl ?_
    refine x_getf (v := D 4956 5) dX31_isLot_6 fl_X31_112 (aw_kS hS K_4956 (by decide)) rfl ?_
    refine x_icmp_ge (tgt := 16) dX31_isLot_9 (by decide) (fun c9 => ?_) (fun c9 => ?_)
    · rw [if_pos c9] at h
      refine x_iconst dX31_isLot_16 (by decide) ?_
      obtain ⟨rfl, rfl⟩ := ga_end h
      exact x_iret dX31_isLot_17 rfl rfl (show (0 : Int) ≤ 0 ∧ (0 : Int) < 2 from by decide) (hq hP)
    · rw [if_neg c9] at h
      refine x_iconst dX31_isLot_12 (by decide) ?_
      refine x_goto (tgt := 17) dX31_isLot_13 (by decide) ?_
      obtain ⟨rfl, rfl⟩ := ga_end h
      exact x_iret dX31_isLot_17 rfl rfl (show (0 : Int) ≤ 1 ∧ (1 : Int) < 2 from by decide) (hq hP)
theorem g_X31_piece_ok {G : aw_G} {Mz : aw_M} {D D' : ga_D} {r : Int} {x1 x2 x3 : Int} (hS : aw_St Mz) (hP : ga_P D) (h : g_X31_piece x1 x2 x3 D = some (r, D')) : aw_Runs yX31_piece cX31_piece 6 (some (.boolean)) 2 0 0 G [(2, 4956), (0, x1), (0, x2), (1, x3)] (aw_wD Mz D) (aw_isP (some (0, r)) (aw_wD Mz D')) aw_no := by
  unfold g_X31_piece at h
  refine aw_body (own := "WasteHouse$PurityOdds") (ini := false) (ls := [(0, (2, 4956)), (1, (0, x1)), (2, (0, x2)), (3, (1, x3))]) rfl rfl (fun h => by cases h) (Nat.le_of_ble_eq_true rfl) rfl ?_
  generalize hQ : aw_isP (some (0, r)) (aw_wD Mz D') = Q
  have hq : ga_P D' → Q (some (0, r)) (aw_wD Mz D') := by rw [← hQ]; exact fun hP => ⟨rfl, rfl, hP⟩
  clear hQ
  refine x_aload_n dX31_piece_0 rfl ?_
  refine x_iload_n dX31_piece_1 rfl ?_
  replace h := ga_bind_some h; obtain ⟨r2, D2, g2, h⟩ := h
  refine x_callV (c := 0) (sl := 0) (as := [(0, x1)]) (rest := []) dX31_piece_2 (g_X31_isLot_ok hS hP g2) (lw_V q5417 q5419 qs97 q430 q5420) (aw_kS hS K_4956 (by decide)) rfl rfl (show _ ∧ _ ∧ _ ∧ _ = some 1 from by decide +kernel) (by decide) (by decide) rfl (Nat.le_of_ble_eq_true rfl) ?_ aw_nox
  rintro _ _ ⟨rfl, rfl, hP2⟩ hx2
  refine x_if_eq (tgt := 45) dX31_piece_5 (by decide) (fun c5 => ?_) (fun c5 => ?_)
  · rw [if_pos c5] at h
    refine x_iconst dX31_piece_45 (by decide) ?_
    obtain ⟨rfl, rfl⟩ := ga_end h
    exact x_iret dX31_piece_46 rfl rfl (show (0 : Int) ≤ 0 ∧ (0 : Int) < 2 from by decide) (hq hP2)
  · rw [if_neg c5] at h
    refine x_iload_n dX31_piece_8 rfl ?_
    refine x_i2l dX31_piece_9 rfl ?_
    refine x_lconst (v := 0) dX31_piece_10 rfl ?_
    refine x_ldc2 (z := 4) dX31_piece_11 q5421 (by decide) ?_
    replace h := ga_bind_some h; obtain ⟨r14, D14, g14, h⟩ := h
    refine x_callS (c := 0) (sl := 0) (as := [(1, x2), (1, 0), (1, 4)]) (rest := []) dX31_piece_14 (g_X31_isIn_ok hS hP2 g14) (lw_S q5403 q5404 q430 q5405) (show _ ∧ _ ∧ _ = some 3 from by decide +kernel) (by decide) (by decide) rfl (Nat.le_of_ble_eq_true rfl) ?_ aw_nox
    rintro _ _ ⟨rfl, rfl, hP14⟩ hx14
    refine x_if_eq (tgt := 45) dX31_piece_17 (by decide) (fun c17 => ?_) (fun c17 => ?_)
    · rw [if_pos c17] at h
      refine x_iconst dX31_piece_45 (by decide) ?_
      obtain ⟨rfl, rfl⟩ := ga_end h
      exact x_iret dX31_piece_46 rfl rfl (show (0 : Int) ≤ 0 ∧ (0 : Int) < 2 from by decide) (hq hP14)
    · rw [if_neg c17] at h
      refine x_lload_n dX31_piece_20 rfl ?_
      refine x_lconst (v := 1) dX31_piece_21 rfl ?_
      refine x_ldc2 (z := 1000000) dX31_piece_22 q5422 (by decide) ?_
      replace h := ga_bind_some h; obtain ⟨r25, D25, g25, h⟩ := h
      refine x_callS (c := 0) (sl := 0) (as := [(1, x3), (1, 1), (1, 1000000)]) (rest := []) dX31_piece_25 (g_X31_isIn_ok hS hP14 g25) (lw_S q5403 q5404 q430 q5405) (show _ ∧ _ ∧ _ = some 3 from by decide +kernel) (by decide) (by decide) rfl (Nat.le_of_ble_eq_true rfl) ?_ aw_nox
      rintro _ _ ⟨rfl, rfl, hP25⟩ hx25
      refine x_if_eq (tgt := 45) dX31_piece_28 (by decide) (fun c28 => ?_) (fun c28 => ?_)
      · rw [if_pos c28] at h
        refine x_iconst dX31_piece_45 (by decide) ?_
        obtain ⟨rfl, rfl⟩ := ga_end h
        exact x_iret dX31_piece_46 rfl rfl (show (0 : Int) ≤ 0 ∧ (0 : Int) < 2 from by decide) (hq hP25)
      · rw [if_neg c28] at h
        refine x_aload_n dX31_piece_31 rfl ?_
        refine x_getf (v := 4959) dX31_piece_32 fl_X31_18 (aw_kS hS K_4956 (by decide)) (P_4956_4 hP25) ?_
        refine x_iload_n dX31_piece_35 rfl ?_
        replace h := ga_ck_some h; obtain ⟨ha36, h⟩ := h
        refine x_aald (t := 14) (v := (8 * x1 + 4968)) dX31_piece_36 (aw_kS hS K_4959 (by decide)) rfl rfl ha36.1 ha36.2 (E_4959 hP25 ha36.1 ha36.2) ?_
        refine x_getf (v := D25 ((8 * x1 + 4968)) 3) dX31_piece_37 fl_X31_133 (aw_kS hS (KE_4959 ha36.1 ha36.2) (by decide)) rfl ?_
        refine x_bipush dX31_piece_40 (by decide) ?_
        refine x_icmp_ne (tgt := 47) dX31_piece_42 (by decide) (fun c42 => ?_) (fun c42 => ?_)
        · rw [if_pos c42] at h
          refine x_aload_n dX31_piece_47 rfl ?_
          refine x_getf (v := 4959) dX31_piece_48 fl_X31_18 (aw_kS hS K_4956 (by decide)) (P_4956_4 hP25) ?_
          refine x_iload_n dX31_piece_51 rfl ?_
          replace h := ga_ck_some h; obtain ⟨ha52, h⟩ := h
          refine x_aald (t := 14) (v := (8 * x1 + 4968)) dX31_piece_52 (aw_kS hS K_4959 (by decide)) rfl rfl ha52.1 ha52.2 (E_4959 hP25 ha52.1 ha52.2) ?_
          refine x_astore (ls' := [(5, (2, (8 * x1 + 4968))), (0, (2, 4956)), (1, (0, x1)), (2, (0, x2)), (3, (1, x3))]) dX31_piece_53 (by decide) rfl ?_
          refine x_aload dX31_piece_55 rfl ?_
          refine x_getf (v := (8 * x1 + 4969)) dX31_piece_57 fl_X31_136 (aw_kS hS (KE_4959 ha52.1 ha52.2) (by decide)) ((O_30_1 hP25 (KE_4959 ha52.1 ha52.2)).trans (by omega)) ?_
          refine x_aload dX31_piece_60 rfl ?_
          refine x_getf (v := D25 ((8 * x1 + 4968)) 3) dX31_piece_62 fl_X31_133 (aw_kS hS (KE_4959 ha52.1 ha52.2) (by decide)) rfl ?_
          refine x_iload_n dX31_piece_65 rfl ?_
          replace h := ga_ck_some h; obtain ⟨ha66, h⟩ := h
          replace h := ga_let_some h; obtain ⟨D66, eD66, h⟩ := h
          refine x_iast dX31_piece_66 (aw_kS hS ((congrArg ga_K (show (8 * x1 + 4969) = (8 * x1 + 4968) + 1 by omega)).trans (KO_30_1 (KE_4959 ha52.1 ha52.2))) (by decide)) (by have := ga_ge (KE_4959 ha52.1 ha52.2) rfl; omega) ha66.1 ha66.2 ?_
          refine x_nmD eD66 ?_
          have hP66 : ga_P D66 := ga_Pset eD66 hP25 (ga_Pn ((congrArg ga_K (show (8 * x1 + 4969) = (8 * x1 + 4968) + 1 by omega)).trans (KO_30_1 (KE_4959 ha52.1 ha52.2))) rfl)
          refine x_aload dX31_piece_67 rfl ?_
          refine x_getf (v := (8 * x1 + 4970)) dX31_piece_69 fl_X31_139 (aw_kS hS (KE_4959 ha52.1 ha52.2) (by decide)) ((O_30_2 hP66 (KE_4959 ha52.1 ha52.2)).trans (by omega)) ?_
          refine x_aload dX31_piece_72 rfl ?_
          refine x_dup dX31_piece_74 rfl ?_
          refine x_getf (v := D66 ((8 * x1 + 4968)) 3) dX31_piece_75 fl_X31_133 (aw_kS hS (KE_4959 ha52.1 ha52.2) (by decide)) rfl ?_
          refine x_dup_x1 dX31_piece_78 rfl rfl ?_
          refine x_iconst dX31_piece_79 (by decide) ?_
          refine x_iadd dX31_piece_80 rfl ?_
          replace h := ga_let_some h; obtain ⟨D81, eD81, h⟩ := h
          refine x_putf dX31_piece_81 fl_X31_133 rfl (aw_kS hS (KE_4959 ha52.1 ha52.2) (by decide)) (ga_ge (KE_4959 ha52.1 ha52.2) rfl) trivial ?_
          refine x_nmD eD81 ?_
          have hP81 : ga_P D81 := ga_Pset eD81 hP66 (ga_Pn (KE_4959 ha52.1 ha52.2) rfl)
          refine x_lload_n dX31_piece_84 rfl ?_
          refine x_l2i dX31_piece_85 rfl ?_
          replace h := ga_ck_some h; obtain ⟨ha86, h⟩ := h
          replace h := ga_let_some h; obtain ⟨D86, eD86, h⟩ := h
          refine x_iast dX31_piece_86 (aw_kS hS ((congrArg ga_K (show (8 * x1 + 4970) = (8 * x1 + 4968) + 2 by omega)).trans (KO_30_2 (KE_4959 ha52.1 ha52.2))) (by decide)) (by have := ga_ge (KE_4959 ha52.1 ha52.2) rfl; omega) ha86.1 ha86.2 ?_
          refine x_nmD eD86 ?_
          have hP86 : ga_P D86 := ga_Pset eD86 hP81 (ga_Pn ((congrArg ga_K (show (8 * x1 + 4970) = (8 * x1 + 4968) + 2 by omega)).trans (KO_30_2 (KE_4959 ha52.1 ha52.2))) rfl)
          refine x_aload dX31_piece_87 rfl ?_
          refine x_getf (v := (8 * x1 + 4971)) dX31_piece_89 fl_X31_142 (aw_kS hS (KE_4959 ha52.1 ha52.2) (by decide)) ((O_30_4 hP86 (KE_4959 ha52.1 ha52.2)).trans (by omega)) ?_
          refine x_iload_n dX31_piece_92 rfl ?_
          refine x_dup2 dX31_piece_93 rfl rfl ?_
          replace h := ga_ck_some h; obtain ⟨ha94, h⟩ := h
          refine x_lald (v := D86 ((8 * x1 + 4971)) x2) dX31_piece_94 (aw_kS hS ((congrArg ga_K (show (8 * x1 + 4971) = (8 * x1 + 4968) + 3 by omega)).trans (KO_30_3 (KE_4959 ha52.1 ha52.2))) (by decide)) ha94.1 ha94.2 rfl ?_
          refine x_lload_n dX31_piece_95 rfl ?_
          refine x_ladd dX31_piece_96 rfl ?_
          replace h := ga_ck_some h; obtain ⟨ha97, h⟩ := h
          replace h := ga_let_some h; obtain ⟨D97, eD97, h⟩ := h
          refine x_last dX31_piece_97 (aw_kS hS ((congrArg ga_K (show (8 * x1 + 4971) = (8 * x1 + 4968) + 3 by omega)).trans (KO_30_3 (KE_4959 ha52.1 ha52.2))) (by decide)) (by have := ga_ge (KE_4959 ha52.1 ha52.2) rfl; omega) ha97.1 ha97.2 ?_
          refine x_nmD eD97 ?_
          have hP97 : ga_P D97 := ga_Pset eD97 hP86 (ga_Pn ((congrArg ga_K (show (8 * x1 + 4971) = (8 * x1 + 4968) + 3 by omega)).trans (KO_30_3 (KE_4959 ha52.1 ha52.2))) rfl)
          refine x_aload dX31_piece_98 rfl ?_
          refine x_dup dX31_piece_100 rfl ?_
          refine x_getf (v := D97 ((8 * x1 + 4968)) 5) dX31_piece_101 fl_X31_145 (aw_kS hS (KE_4959 ha52.1 ha52.2) (by decide)) rfl ?_
          refine x_lload_n dX31_piece_104 rfl ?_
          refine x_ladd dX31_piece_105 rfl ?_
          replace h := ga_let_some h; obtain ⟨D106, eD106, h⟩ := h
          refine x_putf dX31_piece_106 fl_X31_145 rfl (aw_kS hS (KE_4959 ha52.1 ha52.2) (by decide)) (ga_ge (KE_4959 ha52.1 ha52.2) rfl) trivial ?_
          refine x_nmD eD106 ?_
          have hP106 : ga_P D106 := ga_Pset eD106 hP97 (ga_Pn (KE_4959 ha52.1 ha52.2) rfl)
          refine x_iconst dX31_piece_109 (by decide) ?_
          obtain ⟨rfl, rfl⟩ := ga_end h
          exact x_iret dX31_piece_110 rfl rfl (show (0 : Int) ≤ 1 ∧ (1 : Int) < 2 from by decide) (hq hP106)
        · rw [if_neg c42] at h
          refine x_iconst dX31_piece_45 (by decide) ?_
          obtain ⟨rfl, rfl⟩ := ga_end h
          exact x_iret dX31_piece_46 rfl rfl (show (0 : Int) ≤ 0 ∧ (0 : Int) < 2 from by decide) (hq hP25)
theorem g_X31_isKnown_ok {G : aw_G} {Mz : aw_M} {D D' : ga_D} {r : Int} {x1 : Int} (hS : aw_St Mz) (hP : ga_P D) (h : g_X31_isKnown x1 D = some (r, D')) : aw_Runs yX31_isKnown cX31_isKnown 2 (some (.boolean)) 2 0 0 G [(2, 4956), (0, x1)] (aw_wD Mz D) (aw_isP (some (0, r)) (aw_wD Mz D')) aw_no := by
  unfold g_X31_isKnown at h
  refine aw_body (own := "WasteHouse$PurityOdds") (ini := false) (ls := [(0, (2, 4956)), (1, (0, x1))]) rfl rfl (fun h => by cases h) (Nat.le_of_ble_eq_true rfl) rfl ?_
  generalize hQ : aw_isP (some (0, r)) (aw_wD Mz D') = Q
  have hq : ga_P D' → Q (some (0, r)) (aw_wD Mz D') := by rw [← hQ]; exact fun hP => ⟨rfl, rfl, hP⟩
  clear hQ
  refine x_aload_n dX31_isKnown_0 rfl ?_
  refine x_iload_n dX31_isKnown_1 rfl ?_
  replace h := ga_bind_some h; obtain ⟨r2, D2, g2, h⟩ := h
  refine x_callV (c := 0) (sl := 0) (as := [(0, x1)]) (rest := []) dX31_isKnown_2 (g_X31_isLot_ok hS hP g2) (lw_V q5417 q5419 qs97 q430 q5420) (aw_kS hS K_4956 (by decide)) rfl rfl (show _ ∧ _ ∧ _ ∧ _ = some 1 from by decide +kernel) (by decide) (by decide) rfl (Nat.le_of_ble_eq_true rfl) ?_ aw_nox
  rintro _ _ ⟨rfl, rfl, hP2⟩ hx2
  refine x_if_eq (tgt := 36) dX31_isKnown_5 (by decide) (fun c5 => ?_) (fun c5 => ?_)
  · rw [if_pos c5] at h
    refine x_iconst dX31_isKnown_36 (by decide) ?_
    obtain ⟨rfl, rfl⟩ := ga_end h
    exact x_iret dX31_isKnown_37 rfl rfl (show (0 : Int) ≤ 0 ∧ (0 : Int) < 2 from by decide) (hq hP2)
  · rw [if_neg c5] at h
    refine x_aload_n dX31_isKnown_8 rfl ?_
    refine x_getf (v := 4959) dX31_isKnown_9 fl_X31_18 (aw_kS hS K_4956 (by decide)) (P_4956_4 hP2) ?_
    refine x_iload_n dX31_isKnown_12 rfl ?_
    replace h := ga_ck_some h; obtain ⟨ha13, h⟩ := h
    refine x_aald (t := 14) (v := (8 * x1 + 4968)) dX31_isKnown_13 (aw_kS hS K_4959 (by decide)) rfl rfl ha13.1 ha13.2 (E_4959 hP2 ha13.1 ha13.2) ?_
    refine x_getf (v := D2 ((8 * x1 + 4968)) 6) dX31_isKnown_14 fl_X31_155 (aw_kS hS (KE_4959 ha13.1 ha13.2) (by decide)) rfl ?_
    refine x_if_ne (tgt := 32) dX31_isKnown_17 (by decide) (fun c17 => ?_) (fun c17 => ?_)
    · rw [if_pos c17] at h
      refine x_iconst dX31_isKnown_32 (by decide) ?_
      refine x_goto (tgt := 37) dX31_isKnown_33 (by decide) ?_
      obtain ⟨rfl, rfl⟩ := ga_end h
      exact x_iret dX31_isKnown_37 rfl rfl (show (0 : Int) ≤ 1 ∧ (1 : Int) < 2 from by decide) (hq hP2)
    · rw [if_neg c17] at h
      refine x_aload_n dX31_isKnown_20 rfl ?_
      refine x_getf (v := 4959) dX31_isKnown_21 fl_X31_18 (aw_kS hS K_4956 (by decide)) (P_4956_4 hP2) ?_
      refine x_iload_n dX31_isKnown_24 rfl ?_
      replace h := ga_ck_some h; obtain ⟨ha25, h⟩ := h
      refine x_aald (t := 14) (v := (8 * x1 + 4968)) dX31_isKnown_25 (aw_kS hS K_4959 (by decide)) rfl rfl ha25.1 ha25.2 (E_4959 hP2 ha25.1 ha25.2) ?_
      refine x_getf (v := D2 ((8 * x1 + 4968)) 3) dX31_isKnown_26 fl_X31_133 (aw_kS hS (KE_4959 ha25.1 ha25.2) (by decide)) rfl ?_
      refine x_if_le (tgt := 36) dX31_isKnown_29 (by decide) (fun c29 => ?_) (fun c29 => ?_)
      · rw [if_pos c29] at h
        refine x_iconst dX31_isKnown_36 (by decide) ?_
        obtain ⟨rfl, rfl⟩ := ga_end h
        exact x_iret dX31_isKnown_37 rfl rfl (show (0 : Int) ≤ 0 ∧ (0 : Int) < 2 from by decide) (hq hP2)
      · rw [if_neg c29] at h
        refine x_iconst dX31_isKnown_32 (by decide) ?_
        refine x_goto (tgt := 37) dX31_isKnown_33 (by decide) ?_
        obtain ⟨rfl, rfl⟩ := ga_end h
        exact x_iret dX31_isKnown_37 rfl rfl (show (0 : Int) ≤ 1 ∧ (1 : Int) < 2 from by decide) (hq hP2)
theorem g_X32_set_l6_ok {G : aw_G} {M0 Mz : aw_M} {D' : ga_D} {Q : Option aw_V → aw_M → Prop} {r : Int} (hS : aw_St Mz) (hq : ga_P D' → Q none (aw_wD Mz D')) {k31 : Int → Int → Int → Int → ga_D → ga_S} (hk31 : ∀ (x0 x1 x3 x5 : Int) (D : ga_D), ga_P D → k31 x0 x1 x3 x5 D = some (r, D') → aw_W G "WasteHouse$PurityOdds$Ratio" cX32_set none 11 1 false M0 Q aw_no 0 0 31 [(0, (2, x0)), (1, (1, x1)), (3, (1, x3)), (5, (1, x5))] [] (aw_wD Mz D)) : ∀ {n : Nat} {x0 x1 x3 x5 x7 : Int} {D : ga_D}, ga_P D → g_X32_set_l6 n x0 x1 x3 x5 x7 D k31 = some (r, D') → aw_W G "WasteHouse$PurityOdds$Ratio" cX32_set none 11 1 false M0 Q aw_no 0 0 6 [(0, (2, x0)), (1, (1, x1)), (3, (1, x3)), (5, (1, x5)), (7, (1, x7))] [] (aw_wD Mz D) := by
  intro n
  induction n with
  | zero => intro x0 x1 x3 x5 x7 D hP h; exact absurd (h : (none : ga_S) = some (r, D')) (by intro h; cases h)
  | succ n ih =>
    intro x0 x1 x3 x5 x7 D hP h
    have ih : ∀ (x0 x1 x3 x5 x7 : Int) (D : ga_D), ga_P D → g_X32_set_l6 n x0 x1 x3 x5 x7 D k31 = some (r, D') → aw_W G "WasteHouse$PurityOdds$Ratio" cX32_set none 11 1 false M0 Q aw_no 0 0 6 [(0, (2, x0)), (1, (1, x1)), (3, (1, x3)), (5, (1, x5)), (7, (1, x7))] [] (aw_wD Mz D) := fun x0 x1 x3 x5 x7 D hP h => ih hP h
    replace h : (if x7 = 0 then (k31 x0 x1 x3 x5 D) else (ga_ck (x7 ≠ 0) (ga_let (Int.tmod x5 x7) (fun v18 => g_X32_set_l6 n x0 x1 x3 x7 v18 D k31))) : ga_S) = some (r, D') := h
    refine x_lload dX32_set_6 rfl ?_
    refine x_lconst (v := 0) dX32_set_8 rfl ?_
    refine x_lcmp dX32_set_9 rfl ?_
    refine x_if_eq (tgt := 31) dX32_set_10 (by decide) (fun c10 => ?_) (fun c10 => ?_)
    · rw [if_pos (cmi_eq.mp c10)] at h
      refine x_locs [0, 1, 2, 3] (ls' := [(0, (2, x0)), (1, (1, x1)), (3, (1, x3)), (5, (1, x5))]) rfl ?_
      exact hk31 _ _ _ _ _ hP h
    · rw [if_neg (fun q => c10 (cmi_eq.mpr q))] at h
      refine x_lload dX32_set_13 rfl ?_
      refine x_lload dX32_set_15 rfl ?_
      replace h := ga_ck_some h; obtain ⟨hz17, h⟩ := h
      refine x_lrem dX32_set_17 hz17 rfl ?_
      replace h := ga_let_some h; obtain ⟨v18, ev18, h⟩ := h
      refine x_nm ev18 ?_
      refine x_lstore (ls' := [(9, (1, v18)), (0, (2, x0)), (1, (1, x1)), (3, (1, x3)), (5, (1, x5)), (7, (1, x7))]) dX32_set_18 (by decide) rfl ?_
      refine x_lload dX32_set_20 rfl ?_
      refine x_lstore (ls' := [(5, (1, x7)), (9, (1, v18)), (0, (2, x0)), (1, (1, x1)), (3, (1, x3)), (7, (1, x7))]) dX32_set_22 (by decide) rfl ?_
      refine x_lload dX32_set_24 rfl ?_
      refine x_lstore (ls' := [(7, (1, v18)), (5, (1, x7)), (9, (1, v18)), (0, (2, x0)), (1, (1, x1)), (3, (1, x3))]) dX32_set_26 (by decide) rfl ?_
      refine x_goto (tgt := 6) dX32_set_28 (by decide) ?_
      refine x_locs [3, 4, 5, 1, 0] (ls' := [(0, (2, x0)), (1, (1, x1)), (3, (1, x3)), (5, (1, x7)), (7, (1, v18))]) rfl ?_
      exact ih _ _ _ _ _ _ hP h
theorem g_X32_set_ok {G : aw_G} {Mz : aw_M} {D D' : ga_D} {r : Int} {x0 x1 x3 : Int} (hS : aw_St Mz) (hP : ga_P D) (h : g_X32_set x0 x1 x3 D = some (r, D')) : aw_Runs yX32_set cX32_set 11 none 1 0 0 G [(2, x0), (1, x1), (1, x3)] (aw_wD Mz D) (aw_isP none (aw_wD Mz D')) aw_no := by
  unfold g_X32_set at h
  refine aw_body (own := "WasteHouse$PurityOdds$Ratio") (ini := false) (ls := [(0, (2, x0)), (1, (1, x1)), (3, (1, x3))]) rfl rfl (fun h => by cases h) (Nat.le_of_ble_eq_true rfl) rfl ?_
  generalize hQ : aw_isP none (aw_wD Mz D') = Q
  have hq : ga_P D' → Q none (aw_wD Mz D') := by rw [← hQ]; exact fun hP => ⟨rfl, rfl, hP⟩
  clear hQ
  refine x_lload_n dX32_set_0 rfl ?_
  refine x_lstore (ls' := [(5, (1, x1)), (0, (2, x0)), (1, (1, x1)), (3, (1, x3))]) dX32_set_1 (by decide) rfl ?_
  refine x_lload_n dX32_set_3 rfl ?_
  refine x_lstore (ls' := [(7, (1, x3)), (5, (1, x1)), (0, (2, x0)), (1, (1, x1)), (3, (1, x3))]) dX32_set_4 (by decide) rfl ?_
  refine x_locs [2, 3, 4, 1, 0] (ls' := [(0, (2, x0)), (1, (1, x1)), (3, (1, x3)), (5, (1, x1)), (7, (1, x3))]) rfl ?_
  refine g_X32_set_l6_ok hS hq (fun x0 x1 x3 x5 D31 hP h => ?_) hP h
  · refine x_aload_n dX32_set_31 rfl ?_
    refine x_lload_n dX32_set_32 rfl ?_
    refine x_lload dX32_set_33 rfl ?_
    replace h := ga_ck_some h; obtain ⟨hz35, h⟩ := h
    refine x_ldiv dX32_set_35 hz35 rfl ?_
    replace h := ga_ck_some h; obtain ⟨hk36_0, h⟩ := h
    replace h := ga_let_some h; obtain ⟨D36, eD36, h⟩ := h
    refine x_putf dX32_set_36 fl_X32_15 rfl (aw_kS hS hk36_0 (by decide)) (ga_ge hk36_0 rfl) trivial ?_
    refine x_nmD eD36 ?_
    have hP36 : ga_P D36 := ga_Pset eD36 hP (ga_Pn hk36_0 rfl)
    refine x_aload_n dX32_set_39 rfl ?_
    refine x_lload_n dX32_set_40 rfl ?_
    refine x_lload dX32_set_41 rfl ?_
    replace h := ga_ck_some h; obtain ⟨hz43, h⟩ := h
    refine x_ldiv dX32_set_43 hz43 rfl ?_
    replace h := ga_let_some h; obtain ⟨D44, eD44, h⟩ := h
    refine x_putf dX32_set_44 fl_X32_9 rfl (aw_kS hS hk36_0 (by decide)) (ga_ge hk36_0 rfl) trivial ?_
    refine x_nmD eD44 ?_
    have hP44 : ga_P D44 := ga_Pset eD44 hP36 (ga_Pn hk36_0 rfl)
    obtain ⟨rfl, rfl⟩ := ga_end h
    exact x_vret dX32_set_47 rfl (hq hP44)
theorem g_X31_purity_ok {G : aw_G} {Mz : aw_M} {D D' : ga_D} {r : Int} {x1 x2 : Int} (hS : aw_St Mz) (hP : ga_P D) (h : g_X31_purity x1 x2 D = some (r, D')) : aw_Runs yX31_purity cX31_purity 3 none 2 0 0 G [(2, 4956), (2, x1), (2, x2)] (aw_wD Mz D) (aw_isP none (aw_wD Mz D')) aw_no := by
  unfold g_X31_purity at h
  refine aw_body (own := "WasteHouse$PurityOdds") (ini := false) (ls := [(0, (2, 4956)), (1, (2, x1)), (2, (2, x2))]) rfl rfl (fun h => by cases h) (Nat.le_of_ble_eq_true rfl) rfl ?_
  generalize hQ : aw_isP none (aw_wD Mz D') = Q
  have hq : ga_P D' → Q none (aw_wD Mz D') := by rw [← hQ]; exact fun hP => ⟨rfl, rfl, hP⟩
  clear hQ
  refine x_aload_n dX31_purity_0 rfl ?_
  replace h := ga_ck_some h; obtain ⟨hk1_0, h⟩ := h
  refine x_getf (v := D x1 6) dX31_purity_1 fl_X31_155 (aw_kS hS hk1_0 (by decide)) rfl ?_
  refine x_if_eq (tgt := 28) dX31_purity_4 (by decide) (fun c4 => ?_) (fun c4 => ?_)
  · rw [if_pos c4] at h
    refine x_aload_n dX31_purity_28 rfl ?_
    refine x_aload_n dX31_purity_29 rfl ?_
    refine x_getf (v := (x1 + 3)) dX31_purity_30 fl_X31_142 (aw_kS hS hk1_0 (by decide)) (O_30_4 hP hk1_0) ?_
    refine x_iconst dX31_purity_33 (by decide) ?_
    replace h := ga_ck_some h; obtain ⟨ha34, h⟩ := h
    refine x_lald (v := D ((x1 + 3)) 0) dX31_purity_34 (aw_kS hS (KO_30_3 hk1_0) (by decide)) ha34.1 ha34.2 rfl ?_
    refine x_aload_n dX31_purity_35 rfl ?_
    refine x_getf (v := D x1 5) dX31_purity_36 fl_X31_145 (aw_kS hS hk1_0 (by decide)) rfl ?_
    replace h := ga_bind_some h; obtain ⟨r39, D39, g39, h⟩ := h
    replace h := ga_ck_some h; obtain ⟨hk39_0, h⟩ := h
    refine x_callV (c := 0) (sl := 0) (as := [(1, D ((x1 + 3)) 0), (1, D x1 5)]) (rest := []) dX31_purity_39 (g_X32_set_ok hS hP g39) (lw_V q5440 q5441 q5442 q431 q5443) (aw_kS hS hk39_0 (by decide)) rfl rfl (show _ ∧ _ ∧ _ ∧ _ = some 2 from by decide +kernel) (by decide) (by decide) rfl (Nat.le_of_ble_eq_true rfl) ?_ aw_nox
    rintro _ _ ⟨rfl, rfl, hP39⟩ hx39
    obtain ⟨rfl, rfl⟩ := ga_end h
    exact x_vret dX31_purity_42 rfl (hq hP39)
  · rw [if_neg c4] at h
    refine x_aload_n dX31_purity_7 rfl ?_
    refine x_aload_n dX31_purity_8 rfl ?_
    refine x_getf (v := (x1 + 4)) dX31_purity_9 fl_X31_158 (aw_kS hS hk1_0 (by decide)) (O_30_7 hP hk1_0) ?_
    refine x_getf (v := D ((x1 + 4)) 0) dX31_purity_12 fl_X31_90 (aw_kS hS (KO_30_4 hk1_0) (by decide)) rfl ?_
    refine x_aload_n dX31_purity_15 rfl ?_
    refine x_getf (v := (x1 + 4)) dX31_purity_16 fl_X31_158 (aw_kS hS hk1_0 (by decide)) (O_30_7 hP hk1_0) ?_
    refine x_getf (v := D ((x1 + 4)) 1) dX31_purity_19 fl_X31_93 (aw_kS hS (KO_30_4 hk1_0) (by decide)) rfl ?_
    replace h := ga_bind_some h; obtain ⟨r22, D22, g22, h⟩ := h
    replace h := ga_ck_some h; obtain ⟨hk22_0, h⟩ := h
    refine x_callV (c := 0) (sl := 0) (as := [(1, D ((x1 + 4)) 0), (1, D ((x1 + 4)) 1)]) (rest := []) dX31_purity_22 (g_X32_set_ok hS hP g22) (lw_V q5440 q5441 q5442 q431 q5443) (aw_kS hS hk22_0 (by decide)) rfl rfl (show _ ∧ _ ∧ _ ∧ _ = some 2 from by decide +kernel) (by decide) (by decide) rfl (Nat.le_of_ble_eq_true rfl) ?_ aw_nox
    rintro _ _ ⟨rfl, rfl, hP22⟩ hx22
    refine x_goto (tgt := 42) dX31_purity_25 (by decide) ?_
    obtain ⟨rfl, rfl⟩ := ga_end h
    exact x_vret dX31_purity_42 rfl (hq hP22)
theorem g_X32_compare_ok {G : aw_G} {Mz : aw_M} {D D' : ga_D} {r : Int} {x0 x1 : Int} (hS : aw_St Mz) (hP : ga_P D) (h : g_X32_compare x0 x1 D = some (r, D')) : aw_Runs yX32_compare cX32_compare 2 (some (.int)) 2 0 0 G [(2, x0), (2, x1)] (aw_wD Mz D) (aw_isP (some (0, r)) (aw_wD Mz D')) aw_no := by
  unfold g_X32_compare at h
  refine aw_body (own := "WasteHouse$PurityOdds$Ratio") (ini := false) (ls := [(0, (2, x0)), (1, (2, x1))]) rfl rfl (fun h => by cases h) (Nat.le_of_ble_eq_true rfl) rfl ?_
  generalize hQ : aw_isP (some (0, r)) (aw_wD Mz D') = Q
  have hq : ga_P D' → Q (some (0, r)) (aw_wD Mz D') := by rw [← hQ]; exact fun hP => ⟨rfl, rfl, hP⟩
  clear hQ
  refine x_aload_n dX32_compare_0 rfl ?_
  replace h := ga_ck_some h; obtain ⟨hk1_0, h⟩ := h
  refine x_getf (v := D x0 0) dX32_compare_1 fl_X32_15 (aw_kS hS hk1_0 (by decide)) rfl ?_
  refine x_aload_n dX32_compare_4 rfl ?_
  replace h := ga_ck_some h; obtain ⟨hk5_1, h⟩ := h
  refine x_getf (v := D x1 1) dX32_compare_5 fl_X32_9 (aw_kS hS hk5_1 (by decide)) rfl ?_
  refine x_lmul dX32_compare_8 rfl ?_
  refine x_aload_n dX32_compare_9 rfl ?_
  refine x_getf (v := D x1 0) dX32_compare_10 fl_X32_15 (aw_kS hS hk5_1 (by decide)) rfl ?_
  refine x_aload_n dX32_compare_13 rfl ?_
  refine x_getf (v := D x0 1) dX32_compare_14 fl_X32_9 (aw_kS hS hk1_0 (by decide)) rfl ?_
  refine x_lmul dX32_compare_17 rfl ?_
  refine x_lsub dX32_compare_18 rfl ?_
  replace h := ga_bind_some h; obtain ⟨r19, D19, g19, h⟩ := h
  refine x_callS (c := 0) (sl := 0) (as := [(1, aw_w64 ((aw_w64 ((D x0 0) * (D x1 1))) - (aw_w64 ((D x1 0) * (D x0 1)))))]) (rest := []) dX32_compare_19 (g_J30_signum_ok hS hP g19) (lw_S q5452 q5453 q485 q5454) (show _ ∧ _ ∧ _ = some 1 from by decide +kernel) (by decide) (by decide) rfl (Nat.le_of_ble_eq_true rfl) ?_ aw_nox
  rintro _ _ ⟨rfl, rfl, hP19⟩ hx19
  obtain ⟨rfl, rfl⟩ := ga_end h
  exact x_iret dX32_compare_22 rfl rfl trivial (hq hP19)
theorem g_X31_stepOf_l7_ok {G : aw_G} {M0 Mz : aw_M} {D' : ga_D} {Q : Option aw_V → aw_M → Prop} {r : Int} (hS : aw_St Mz) (hq : ga_P D' → Q (some (0, r)) (aw_wD Mz D')) {k30 : Int → ga_D → ga_S} (hk30 : ∀ (x2 : Int) (D : ga_D), ga_P D → k30 x2 D = some (r, D') → aw_W G "WasteHouse$PurityOdds" cX31_stepOf (some (.int)) 3 3 false M0 Q aw_no 0 0 30 [(2, (0, x2))] [] (aw_wD Mz D)) : ∀ {n : Nat} {x1 x2 : Int} {D : ga_D}, ga_P D → g_X31_stepOf_l7 n x1 x2 D k30 = some (r, D') → aw_W G "WasteHouse$PurityOdds" cX31_stepOf (some (.int)) 3 3 false M0 Q aw_no 0 0 7 [(0, (2, 4956)), (1, (2, x1)), (2, (0, x2))] [] (aw_wD Mz D) := by
  intro n
  induction n with
  | zero => intro x1 x2 D hP h; exact absurd (h : (none : ga_S) = some (r, D')) (by intro h; cases h)
  | succ n ih =>
    intro x1 x2 D hP h
    have ih : ∀ (x1 x2 : Int) (D : ga_D), ga_P D → g_X31_stepOf_l7 n x1 x2 D k30 = some (r, D') → aw_W G "WasteHouse$PurityOdds" cX31_stepOf (some (.int)) 3 3 false M0 Q aw_no 0 0 7 [(0, (2, 4956)), (1, (2, x1)), (2, (0, x2))] [] (aw_wD Mz D) := fun x1 x2 D hP h => ih hP h
    replace h : (if x2 < 0 then (k30 x2 D) else (ga_ck (0 ≤ x2 ∧ x2 < 12) (ga_bind (g_X32_compare ((x2 + 5016)) x1 D) (fun r18 D18 => if r18 ≤ 0 then (k30 x2 D18) else (ga_let (aw_w32 (x2 + (-1))) (fun v24 => g_X31_stepOf_l7 n x1 v24 D18 k30))))) : ga_S) = some (r, D') := h
    refine x_iload_n dX31_stepOf_7 rfl ?_
    refine x_if_lt (tgt := 30) dX31_stepOf_8 (by decide) (fun c8 => ?_) (fun c8 => ?_)
    · rw [if_pos c8] at h
      refine x_locs [2] (ls' := [(2, (0, x2))]) rfl ?_
      exact hk30 _ _ hP h
    · rw [if_neg c8] at h
      refine x_aload_n dX31_stepOf_11 rfl ?_
      refine x_getf (v := 4960) dX31_stepOf_12 fl_X31_24 (aw_kS hS K_4956 (by decide)) (P_4956_6 hP) ?_
      refine x_iload_n dX31_stepOf_15 rfl ?_
      replace h := ga_ck_some h; obtain ⟨ha16, h⟩ := h
      refine x_aald (t := 15) (v := (x2 + 5016)) dX31_stepOf_16 (aw_kS hS K_4960 (by decide)) rfl rfl ha16.1 ha16.2 (E_4960 hP ha16.1 ha16.2) ?_
      refine x_aload_n dX31_stepOf_17 rfl ?_
      replace h := ga_bind_some h; obtain ⟨r18, D18, g18, h⟩ := h
      refine x_callV (c := 0) (sl := 0) (as := [(2, x1)]) (rest := []) dX31_stepOf_18 (g_X32_compare_ok hS hP g18) (lw_V q5448 q5449 q5450 q431 q5451) (aw_kS hS (KE_4960 ha16.1 ha16.2) (by decide)) rfl rfl (show _ ∧ _ ∧ _ ∧ _ = some 1 from by decide +kernel) (by decide) (by decide) rfl (Nat.le_of_ble_eq_true rfl) ?_ aw_nox
      rintro _ _ ⟨rfl, rfl, hP18⟩ hx18
      refine x_if_le (tgt := 30) dX31_stepOf_21 (by decide) (fun c21 => ?_) (fun c21 => ?_)
      · rw [if_pos c21] at h
        refine x_locs [2] (ls' := [(2, (0, x2))]) rfl ?_
        exact hk30 _ _ hP18 h
      · rw [if_neg c21] at h
        replace h := ga_let_some h; obtain ⟨v24, ev24, h⟩ := h
        refine x_iinc (ls' := [(2, (0, v24)), (0, (2, 4956)), (1, (2, x1))]) dX31_stepOf_24 rfl ev24.symm (by decide) rfl ?_
        refine x_goto (tgt := 7) dX31_stepOf_27 (by decide) ?_
        refine x_locs [1, 2, 0] (ls' := [(0, (2, 4956)), (1, (2, x1)), (2, (0, v24))]) rfl ?_
        exact ih _ _ _ hP18 h
theorem g_X31_stepOf_ok {G : aw_G} {Mz : aw_M} {D D' : ga_D} {r : Int} {x1 : Int} (hS : aw_St Mz) (hP : ga_P D) (h : g_X31_stepOf x1 D = some (r, D')) : aw_Runs yX31_stepOf cX31_stepOf 3 (some (.int)) 3 0 0 G [(2, 4956), (2, x1)] (aw_wD Mz D) (aw_isP (some (0, r)) (aw_wD Mz D')) aw_no := by
  unfold g_X31_stepOf at h
  refine aw_body (own := "WasteHouse$PurityOdds") (ini := false) (ls := [(0, (2, 4956)), (1, (2, x1))]) rfl rfl (fun h => by cases h) (Nat.le_of_ble_eq_true rfl) rfl ?_
  generalize hQ : aw_isP (some (0, r)) (aw_wD Mz D') = Q
  have hq : ga_P D' → Q (some (0, r)) (aw_wD Mz D') := by rw [← hQ]; exact fun hP => ⟨rfl, rfl, hP⟩
  clear hQ
  refine x_aload_n dX31_stepOf_0 rfl ?_
  refine x_getf (v := D 4956 8) dX31_stepOf_1 fl_X31_152 (aw_kS hS K_4956 (by decide)) rfl ?_
  refine x_iconst dX31_stepOf_4 (by decide) ?_
  refine x_isub dX31_stepOf_5 rfl ?_
  replace h := ga_let_some h; obtain ⟨v6, ev6, h⟩ := h
  refine x_nm ev6 ?_
  refine x_istore_n (ls' := [(2, (0, v6)), (0, (2, 4956)), (1, (2, x1))]) dX31_stepOf_6 (by decide) rfl ?_
  refine x_locs [1, 2, 0] (ls' := [(0, (2, 4956)), (1, (2, x1)), (2, (0, v6))]) rfl ?_
  refine g_X31_stepOf_l7_ok hS hq (fun x2 D30 hP h => ?_) hP h
  · refine x_iload_n dX31_stepOf_30 rfl ?_
    obtain ⟨rfl, rfl⟩ := ga_end h
    exact x_iret dX31_stepOf_31 rfl rfl trivial (hq hP)
theorem g_X31_price_ok {G : aw_G} {Mz : aw_M} {D D' : ga_D} {r : Int} {x1 : Int} (hS : aw_St Mz) (hP : ga_P D) (h : g_X31_price x1 D = some (r, D')) : aw_Runs yX31_price cX31_price 3 (some (.long)) 4 0 0 G [(2, 4956), (0, x1)] (aw_wD Mz D) (aw_isP (some (1, r)) (aw_wD Mz D')) aw_no := by
  unfold g_X31_price at h
  refine aw_body (own := "WasteHouse$PurityOdds") (ini := false) (ls := [(0, (2, 4956)), (1, (0, x1))]) rfl rfl (fun h => by cases h) (Nat.le_of_ble_eq_true rfl) rfl ?_
  generalize hQ : aw_isP (some (1, r)) (aw_wD Mz D') = Q
  have hq : ga_P D' → Q (some (1, r)) (aw_wD Mz D') := by rw [← hQ]; exact fun hP => ⟨rfl, rfl, hP⟩
  clear hQ
  refine x_aload_n dX31_price_0 rfl ?_
  refine x_iload_n dX31_price_1 rfl ?_
  replace h := ga_bind_some h; obtain ⟨r2, D2, g2, h⟩ := h
  refine x_callV (c := 0) (sl := 0) (as := [(0, x1)]) (rest := []) dX31_price_2 (g_X31_isKnown_ok hS hP g2) (lw_V q5431 q5433 qs99 q430 q5434) (aw_kS hS K_4956 (by decide)) rfl rfl (show _ ∧ _ ∧ _ ∧ _ = some 1 from by decide +kernel) (by decide) (by decide) rfl (Nat.le_of_ble_eq_true rfl) ?_ aw_nox
  rintro _ _ ⟨rfl, rfl, hP2⟩ hx2
  refine x_if_ne (tgt := 12) dX31_price_5 (by decide) (fun c5 => ?_) (fun c5 => ?_)
  · rw [if_pos c5] at h
    refine x_aload_n dX31_price_12 rfl ?_
    refine x_aload_n dX31_price_13 rfl ?_
    refine x_getf (v := 4959) dX31_price_14 fl_X31_18 (aw_kS hS K_4956 (by decide)) (P_4956_4 hP2) ?_
    refine x_iload_n dX31_price_17 rfl ?_
    replace h := ga_ck_some h; obtain ⟨ha18, h⟩ := h
    refine x_aald (t := 14) (v := (8 * x1 + 4968)) dX31_price_18 (aw_kS hS K_4959 (by decide)) rfl rfl ha18.1 ha18.2 (E_4959 hP2 ha18.1 ha18.2) ?_
    refine x_aload_n dX31_price_19 rfl ?_
    refine x_getf (v := 4966) dX31_price_20 fl_X31_46 (aw_kS hS K_4956 (by decide)) (P_4956_14 hP2) ?_
    replace h := ga_bind_some h; obtain ⟨r23, D23, g23, h⟩ := h
    refine x_callV (c := 0) (sl := 0) (as := [(2, (8 * x1 + 4968)), (2, 4966)]) (rest := []) dX31_price_23 (g_X31_purity_ok hS hP2 g23) (lw_V q5436 q5438 qs100 q430 q5439) (aw_kS hS K_4956 (by decide)) rfl rfl (show _ ∧ _ ∧ _ ∧ _ = some 2 from by decide +kernel) (by decide) (by decide) rfl (Nat.le_of_ble_eq_true rfl) ?_ aw_nox
    rintro _ _ ⟨rfl, rfl, hP23⟩ hx23
    refine x_aload_n dX31_price_26 rfl ?_
    refine x_aload_n dX31_price_27 rfl ?_
    refine x_getf (v := 4966) dX31_price_28 fl_X31_46 (aw_kS hS K_4956 (by decide)) (P_4956_14 hP23) ?_
    replace h := ga_bind_some h; obtain ⟨r31, D31, g31, h⟩ := h
    refine x_callV (c := 0) (sl := 0) (as := [(2, 4966)]) (rest := []) dX31_price_31 (g_X31_stepOf_ok hS hP23 g31) (lw_V q5444 q5446 qs101 q430 q5447) (aw_kS hS K_4956 (by decide)) rfl rfl (show _ ∧ _ ∧ _ ∧ _ = some 1 from by decide +kernel) (by decide) (by decide) rfl (Nat.le_of_ble_eq_true rfl) ?_ aw_nox
    rintro _ _ ⟨rfl, rfl, hP31⟩ hx31
    refine x_istore_n (ls' := [(2, (0, r31)), (0, (2, 4956)), (1, (0, x1))]) dX31_price_34 (by decide) rfl ?_
    refine x_iload_n dX31_price_35 rfl ?_
    refine x_if_ge (tgt := 43) dX31_price_36 (by decide) (fun c36 => ?_) (fun c36 => ?_)
    · rw [if_pos c36] at h
      refine x_aload_n dX31_price_43 rfl ?_
      refine x_getf (v := 4961) dX31_price_44 fl_X31_28 (aw_kS hS K_4956 (by decide)) (P_4956_7 hP31) ?_
      refine x_iload_n dX31_price_47 rfl ?_
      replace h := ga_ck_some h; obtain ⟨ha48, h⟩ := h
      refine x_iald (v := D31 4961 r31) dX31_price_48 (aw_kS hS K_4961 (by decide)) ha48.1 ha48.2 rfl ?_
      refine x_i2l dX31_price_49 rfl ?_
      refine x_aload_n dX31_price_50 rfl ?_
      refine x_getf (v := 4959) dX31_price_51 fl_X31_18 (aw_kS hS K_4956 (by decide)) (P_4956_4 hP31) ?_
      refine x_iload_n dX31_price_54 rfl ?_
      replace h := ga_ck_some h; obtain ⟨ha55, h⟩ := h
      refine x_aald (t := 14) (v := (8 * x1 + 4968)) dX31_price_55 (aw_kS hS K_4959 (by decide)) rfl rfl ha55.1 ha55.2 (E_4959 hP31 ha55.1 ha55.2) ?_
      refine x_getf (v := D31 ((8 * x1 + 4968)) 0) dX31_price_56 fl_X31_117 (aw_kS hS (KE_4959 ha55.1 ha55.2) (by decide)) rfl ?_
      refine x_lmul dX31_price_59 rfl ?_
      refine x_ldc2 (z := 1000) dX31_price_60 q5455 (by decide) ?_
      refine x_ldiv dX31_price_63 (by decide) rfl ?_
      obtain ⟨rfl, rfl⟩ := ga_end h
      exact x_lret dX31_price_64 rfl (hq hP31)
    · rw [if_neg c36] at h
      refine x_lconst (v := 0) dX31_price_39 rfl ?_
      refine x_goto (tgt := 64) dX31_price_40 (by decide) ?_
      obtain ⟨rfl, rfl⟩ := ga_end h
      exact x_lret dX31_price_64 rfl (hq hP31)
  · rw [if_neg c5] at h
    refine x_ldc2 (z := (-1)) dX31_price_8 q5435 (by decide) ?_
    obtain ⟨rfl, rfl⟩ := ga_end h
    exact x_lret dX31_price_11 rfl (hq hP2)
theorem g_X32_part_ok {G : aw_G} {Mz : aw_M} {D D' : ga_D} {r : Int} {x0 x1 : Int} (hS : aw_St Mz) (hP : ga_P D) (h : g_X32_part x0 x1 D = some (r, D')) : aw_Runs yX32_part cX32_part 2 (some (.long)) 1 0 0 G [(2, x0), (0, x1)] (aw_wD Mz D) (aw_isP (some (1, r)) (aw_wD Mz D')) aw_no := by
  unfold g_X32_part at h
  refine aw_body (own := "WasteHouse$PurityOdds$Ratio") (ini := false) (ls := [(0, (2, x0)), (1, (0, x1))]) rfl rfl (fun h => by cases h) (Nat.le_of_ble_eq_true rfl) rfl ?_
  generalize hQ : aw_isP (some (1, r)) (aw_wD Mz D') = Q
  have hq : ga_P D' → Q (some (1, r)) (aw_wD Mz D') := by rw [← hQ]; exact fun hP => ⟨rfl, rfl, hP⟩
  clear hQ
  refine x_iload_n dX32_part_0 rfl ?_
  refine x_if_ne (tgt := 11) dX32_part_1 (by decide) (fun c1 => ?_) (fun c1 => ?_)
  · rw [if_pos c1] at h
    refine x_iload_n dX32_part_11 rfl ?_
    refine x_iconst dX32_part_12 (by decide) ?_
    refine x_icmp_ne (tgt := 23) dX32_part_13 (by decide) (fun c13 => ?_) (fun c13 => ?_)
    · rw [if_pos c13] at h
      refine x_ldc2 (z := (-1)) dX32_part_23 q5489 (by decide) ?_
      obtain ⟨rfl, rfl⟩ := ga_end h
      exact x_lret dX32_part_26 rfl (hq hP)
    · rw [if_neg c13] at h
      refine x_aload_n dX32_part_16 rfl ?_
      replace h := ga_ck_some h; obtain ⟨hk17_0, h⟩ := h
      refine x_getf (v := D x0 1) dX32_part_17 fl_X32_9 (aw_kS hS hk17_0 (by decide)) rfl ?_
      refine x_goto (tgt := 26) dX32_part_20 (by decide) ?_
      obtain ⟨rfl, rfl⟩ := ga_end h
      exact x_lret dX32_part_26 rfl (hq hP)
  · rw [if_neg c1] at h
    refine x_aload_n dX32_part_4 rfl ?_
    replace h := ga_ck_some h; obtain ⟨hk5_0, h⟩ := h
    refine x_getf (v := D x0 0) dX32_part_5 fl_X32_15 (aw_kS hS hk5_0 (by decide)) rfl ?_
    refine x_goto (tgt := 26) dX32_part_8 (by decide) ?_
    obtain ⟨rfl, rfl⟩ := ga_end h
    exact x_lret dX32_part_26 rfl (hq hP)
theorem g_X31_share_ok {G : aw_G} {Mz : aw_M} {D D' : ga_D} {r : Int} {x1 x2 x3 : Int} (hS : aw_St Mz) (hP : ga_P D) (h : g_X31_share x1 x2 x3 D = some (r, D')) : aw_Runs yX31_share cX31_share 4 (some (.long)) 2 0 0 G [(2, 4956), (0, x1), (0, x2), (0, x3)] (aw_wD Mz D) (aw_isP (some (1, r)) (aw_wD Mz D')) aw_no := by
  unfold g_X31_share at h
  refine aw_body (own := "WasteHouse$PurityOdds") (ini := false) (ls := [(0, (2, 4956)), (1, (0, x1)), (2, (0, x2)), (3, (0, x3))]) rfl rfl (fun h => by cases h) (Nat.le_of_ble_eq_true rfl) rfl ?_
  generalize hQ : aw_isP (some (1, r)) (aw_wD Mz D') = Q
  have hq : ga_P D' → Q (some (1, r)) (aw_wD Mz D') := by rw [← hQ]; exact fun hP => ⟨rfl, rfl, hP⟩
  clear hQ
  refine x_aload_n dX31_share_0 rfl ?_
  refine x_iload_n dX31_share_1 rfl ?_
  replace h := ga_bind_some h; obtain ⟨r2, D2, g2, h⟩ := h
  refine x_callV (c := 0) (sl := 0) (as := [(0, x1)]) (rest := []) dX31_share_2 (g_X31_isLot_ok hS hP g2) (lw_V q5417 q5419 qs97 q430 q5420) (aw_kS hS K_4956 (by decide)) rfl rfl (show _ ∧ _ ∧ _ ∧ _ = some 1 from by decide +kernel) (by decide) (by decide) rfl (Nat.le_of_ble_eq_true rfl) ?_ aw_nox
  rintro _ _ ⟨rfl, rfl, hP2⟩ hx2
  refine x_if_eq (tgt := 32) dX31_share_5 (by decide) (fun c5 => ?_) (fun c5 => ?_)
  · rw [if_pos c5] at h
    refine x_ldc2 (z := (-1)) dX31_share_32 q5435 (by decide) ?_
    obtain ⟨rfl, rfl⟩ := ga_end h
    exact x_lret dX31_share_35 rfl (hq hP2)
  · rw [if_neg c5] at h
    refine x_iload_n dX31_share_8 rfl ?_
    refine x_i2l dX31_share_9 rfl ?_
    refine x_lconst (v := 0) dX31_share_10 rfl ?_
    refine x_ldc2 (z := 4) dX31_share_11 q5421 (by decide) ?_
    replace h := ga_bind_some h; obtain ⟨r14, D14, g14, h⟩ := h
    refine x_callS (c := 0) (sl := 0) (as := [(1, x2), (1, 0), (1, 4)]) (rest := []) dX31_share_14 (g_X31_isIn_ok hS hP2 g14) (lw_S q5403 q5404 q430 q5405) (show _ ∧ _ ∧ _ = some 3 from by decide +kernel) (by decide) (by decide) rfl (Nat.le_of_ble_eq_true rfl) ?_ aw_nox
    rintro _ _ ⟨rfl, rfl, hP14⟩ hx14
    refine x_if_eq (tgt := 32) dX31_share_17 (by decide) (fun c17 => ?_) (fun c17 => ?_)
    · rw [if_pos c17] at h
      refine x_ldc2 (z := (-1)) dX31_share_32 q5435 (by decide) ?_
      obtain ⟨rfl, rfl⟩ := ga_end h
      exact x_lret dX31_share_35 rfl (hq hP14)
    · rw [if_neg c17] at h
      refine x_aload_n dX31_share_20 rfl ?_
      refine x_getf (v := 4959) dX31_share_21 fl_X31_18 (aw_kS hS K_4956 (by decide)) (P_4956_4 hP14) ?_
      refine x_iload_n dX31_share_24 rfl ?_
      replace h := ga_ck_some h; obtain ⟨ha25, h⟩ := h
      refine x_aald (t := 14) (v := (8 * x1 + 4968)) dX31_share_25 (aw_kS hS K_4959 (by decide)) rfl rfl ha25.1 ha25.2 (E_4959 hP14 ha25.1 ha25.2) ?_
      refine x_getf (v := D14 ((8 * x1 + 4968)) 3) dX31_share_26 fl_X31_133 (aw_kS hS (KE_4959 ha25.1 ha25.2) (by decide)) rfl ?_
      refine x_if_ne (tgt := 36) dX31_share_29 (by decide) (fun c29 => ?_) (fun c29 => ?_)
      · rw [if_pos c29] at h
        refine x_aload_n dX31_share_36 rfl ?_
        refine x_getf (v := 4965) dX31_share_37 fl_X31_43 (aw_kS hS K_4956 (by decide)) (P_4956_13 hP14) ?_
        refine x_aload_n dX31_share_40 rfl ?_
        refine x_getf (v := 4959) dX31_share_41 fl_X31_18 (aw_kS hS K_4956 (by decide)) (P_4956_4 hP14) ?_
        refine x_iload_n dX31_share_44 rfl ?_
        replace h := ga_ck_some h; obtain ⟨ha45, h⟩ := h
        refine x_aald (t := 14) (v := (8 * x1 + 4968)) dX31_share_45 (aw_kS hS K_4959 (by decide)) rfl rfl ha45.1 ha45.2 (E_4959 hP14 ha45.1 ha45.2) ?_
        refine x_getf (v := (8 * x1 + 4971)) dX31_share_46 fl_X31_142 (aw_kS hS (KE_4959 ha45.1 ha45.2) (by decide)) ((O_30_4 hP14 (KE_4959 ha45.1 ha45.2)).trans (by omega)) ?_
        refine x_iload_n dX31_share_49 rfl ?_
        replace h := ga_ck_some h; obtain ⟨ha50, h⟩ := h
        refine x_lald (v := D14 ((8 * x1 + 4971)) x2) dX31_share_50 (aw_kS hS ((congrArg ga_K (show (8 * x1 + 4971) = (8 * x1 + 4968) + 3 by omega)).trans (KO_30_3 (KE_4959 ha45.1 ha45.2))) (by decide)) ha50.1 ha50.2 rfl ?_
        refine x_aload_n dX31_share_51 rfl ?_
        refine x_getf (v := 4959) dX31_share_52 fl_X31_18 (aw_kS hS K_4956 (by decide)) (P_4956_4 hP14) ?_
        refine x_iload_n dX31_share_55 rfl ?_
        replace h := ga_ck_some h; obtain ⟨ha56, h⟩ := h
        refine x_aald (t := 14) (v := (8 * x1 + 4968)) dX31_share_56 (aw_kS hS K_4959 (by decide)) rfl rfl ha56.1 ha56.2 (E_4959 hP14 ha56.1 ha56.2) ?_
        refine x_getf (v := D14 ((8 * x1 + 4968)) 5) dX31_share_57 fl_X31_145 (aw_kS hS (KE_4959 ha56.1 ha56.2) (by decide)) rfl ?_
        replace h := ga_bind_some h; obtain ⟨r60, D60, g60, h⟩ := h
        refine x_callV (c := 0) (sl := 0) (as := [(1, D14 ((8 * x1 + 4971)) x2), (1, D14 ((8 * x1 + 4968)) 5)]) (rest := []) dX31_share_60 (g_X32_set_ok hS hP14 g60) (lw_V q5440 q5441 q5442 q431 q5443) (aw_kS hS K_4965 (by decide)) rfl rfl (show _ ∧ _ ∧ _ ∧ _ = some 2 from by decide +kernel) (by decide) (by decide) rfl (Nat.le_of_ble_eq_true rfl) ?_ aw_nox
        rintro _ _ ⟨rfl, rfl, hP60⟩ hx60
        refine x_aload_n dX31_share_63 rfl ?_
        refine x_getf (v := 4965) dX31_share_64 fl_X31_43 (aw_kS hS K_4956 (by decide)) (P_4956_13 hP60) ?_
        refine x_iload_n dX31_share_67 rfl ?_
        replace h := ga_bind_some h; obtain ⟨r68, D68, g68, h⟩ := h
        refine x_callV (c := 0) (sl := 0) (as := [(0, x3)]) (rest := []) dX31_share_68 (g_X32_part_ok hS hP60 g68) (lw_V q5485 q5486 q5487 q431 q5488) (aw_kS hS K_4965 (by decide)) rfl rfl (show _ ∧ _ ∧ _ ∧ _ = some 1 from by decide +kernel) (by decide) (by decide) rfl (Nat.le_of_ble_eq_true rfl) ?_ aw_nox
        rintro _ _ ⟨rfl, rfl, hP68⟩ hx68
        obtain ⟨rfl, rfl⟩ := ga_end h
        exact x_lret dX31_share_71 rfl (hq hP68)
      · rw [if_neg c29] at h
        refine x_ldc2 (z := (-1)) dX31_share_32 q5435 (by decide) ?_
        obtain ⟨rfl, rfl⟩ := ga_end h
        exact x_lret dX31_share_35 rfl (hq hP14)
theorem g_X31_plan_ok {G : aw_G} {Mz : aw_M} {D D' : ga_D} {r : Int} {x1 x2 : Int} (hS : aw_St Mz) (hP : ga_P D) (h : g_X31_plan x1 x2 D = some (r, D')) : aw_Runs yX31_plan cX31_plan 3 (some (.int)) 2 0 0 G [(2, 4956), (0, x1), (0, x2)] (aw_wD Mz D) (aw_isP (some (0, r)) (aw_wD Mz D')) aw_no := by
  unfold g_X31_plan at h
  refine aw_body (own := "WasteHouse$PurityOdds") (ini := false) (ls := [(0, (2, 4956)), (1, (0, x1)), (2, (0, x2))]) rfl rfl (fun h => by cases h) (Nat.le_of_ble_eq_true rfl) rfl ?_
  generalize hQ : aw_isP (some (0, r)) (aw_wD Mz D') = Q
  have hq : ga_P D' → Q (some (0, r)) (aw_wD Mz D') := by rw [← hQ]; exact fun hP => ⟨rfl, rfl, hP⟩
  clear hQ
  refine x_aload_n dX31_plan_0 rfl ?_
  refine x_getf (v := D 4956 3) dX31_plan_1 fl_X31_61 (aw_kS hS K_4956 (by decide)) rfl ?_
  refine x_bipush dX31_plan_4 (by decide) ?_
  refine x_icmp_eq (tgt := 32) dX31_plan_6 (by decide) (fun c6 => ?_) (fun c6 => ?_)
  · rw [if_pos c6] at h
    refine x_iconst dX31_plan_32 (by decide) ?_
    obtain ⟨rfl, rfl⟩ := ga_end h
    exact x_iret dX31_plan_33 rfl rfl trivial (hq hP)
  · rw [if_neg c6] at h
    refine x_iload_n dX31_plan_9 rfl ?_
    refine x_i2l dX31_plan_10 rfl ?_
    refine x_lconst (v := 1) dX31_plan_11 rfl ?_
    refine x_ldc2 (z := 7) dX31_plan_12 q6271 (by decide) ?_
    replace h := ga_bind_some h; obtain ⟨r15, D15, g15, h⟩ := h
    refine x_callS (c := 0) (sl := 0) (as := [(1, x1), (1, 1), (1, 7)]) (rest := []) dX31_plan_15 (g_X31_isIn_ok hS hP g15) (lw_S q5403 q5404 q430 q5405) (show _ ∧ _ ∧ _ = some 3 from by decide +kernel) (by decide) (by decide) rfl (Nat.le_of_ble_eq_true rfl) ?_ aw_nox
    rintro _ _ ⟨rfl, rfl, hP15⟩ hx15
    refine x_if_eq (tgt := 32) dX31_plan_18 (by decide) (fun c18 => ?_) (fun c18 => ?_)
    · rw [if_pos c18] at h
      refine x_iconst dX31_plan_32 (by decide) ?_
      obtain ⟨rfl, rfl⟩ := ga_end h
      exact x_iret dX31_plan_33 rfl rfl trivial (hq hP15)
    · rw [if_neg c18] at h
      refine x_iload_n dX31_plan_21 rfl ?_
      refine x_i2l dX31_plan_22 rfl ?_
      refine x_lconst (v := 0) dX31_plan_23 rfl ?_
      refine x_iload_n dX31_plan_24 rfl ?_
      refine x_i2l dX31_plan_25 rfl ?_
      replace h := ga_bind_some h; obtain ⟨r26, D26, g26, h⟩ := h
      refine x_callS (c := 0) (sl := 0) (as := [(1, x2), (1, 0), (1, x1)]) (rest := []) dX31_plan_26 (g_X31_isIn_ok hS hP15 g26) (lw_S q5403 q5404 q430 q5405) (show _ ∧ _ ∧ _ = some 3 from by decide +kernel) (by decide) (by decide) rfl (Nat.le_of_ble_eq_true rfl) ?_ aw_nox
      rintro _ _ ⟨rfl, rfl, hP26⟩ hx26
      refine x_if_ne (tgt := 34) dX31_plan_29 (by decide) (fun c29 => ?_) (fun c29 => ?_)
      · rw [if_pos c29] at h
        refine x_aload_n dX31_plan_34 rfl ?_
        refine x_getf (v := 4957) dX31_plan_35 fl_X31_7 (aw_kS hS K_4956 (by decide)) (P_4956_1 hP26) ?_
        refine x_aload_n dX31_plan_38 rfl ?_
        refine x_getf (v := D26 4956 3) dX31_plan_39 fl_X31_61 (aw_kS hS K_4956 (by decide)) rfl ?_
        refine x_iload_n dX31_plan_42 rfl ?_
        replace h := ga_ck_some h; obtain ⟨ha43, h⟩ := h
        replace h := ga_let_some h; obtain ⟨D43, eD43, h⟩ := h
        refine x_iast dX31_plan_43 (aw_kS hS K_4957 (by decide)) (by decide) ha43.1 ha43.2 ?_
        refine x_nmD eD43 ?_
        have hP43 : ga_P D43 := ga_Pset eD43 hP26 (ga_Pn K_4957 rfl)
        refine x_aload_n dX31_plan_44 rfl ?_
        refine x_getf (v := 4958) dX31_plan_45 fl_X31_13 (aw_kS hS K_4956 (by decide)) (P_4956_2 hP43) ?_
        refine x_aload_n dX31_plan_48 rfl ?_
        refine x_getf (v := D43 4956 3) dX31_plan_49 fl_X31_61 (aw_kS hS K_4956 (by decide)) rfl ?_
        refine x_iload_n dX31_plan_52 rfl ?_
        replace h := ga_ck_some h; obtain ⟨ha53, h⟩ := h
        replace h := ga_let_some h; obtain ⟨D53, eD53, h⟩ := h
        refine x_iast dX31_plan_53 (aw_kS hS K_4958 (by decide)) (by decide) ha53.1 ha53.2 ?_
        refine x_nmD eD53 ?_
        have hP53 : ga_P D53 := ga_Pset eD53 hP43 (ga_Pn K_4958 rfl)
        refine x_aload_n dX31_plan_54 rfl ?_
        refine x_dup dX31_plan_55 rfl ?_
        refine x_getf (v := D53 4956 3) dX31_plan_56 fl_X31_61 (aw_kS hS K_4956 (by decide)) rfl ?_
        refine x_dup_x1 dX31_plan_59 rfl rfl ?_
        refine x_iconst dX31_plan_60 (by decide) ?_
        refine x_iadd dX31_plan_61 rfl ?_
        replace h := ga_let_some h; obtain ⟨D62, eD62, h⟩ := h
        refine x_putf dX31_plan_62 fl_X31_61 rfl (aw_kS hS K_4956 (by decide)) (by decide) trivial ?_
        refine x_nmD eD62 ?_
        have hP62 : ga_P D62 := ga_Pset eD62 hP53 (ga_Pn K_4956 rfl)
        obtain ⟨rfl, rfl⟩ := ga_end h
        exact x_iret dX31_plan_65 rfl rfl trivial (hq hP62)
      · rw [if_neg c29] at h
        refine x_iconst dX31_plan_32 (by decide) ?_
        obtain ⟨rfl, rfl⟩ := ga_end h
        exact x_iret dX31_plan_33 rfl rfl trivial (hq hP26)
theorem g_X31_isPlan_ok {G : aw_G} {Mz : aw_M} {D D' : ga_D} {r : Int} {x1 : Int} (hS : aw_St Mz) (hP : ga_P D) (h : g_X31_isPlan x1 D = some (r, D')) : aw_Runs yX31_isPlan cX31_isPlan 2 (some (.boolean)) 1 0 0 G [(2, 4956), (0, x1)] (aw_wD Mz D) (aw_isP (some (0, r)) (aw_wD Mz D')) aw_no := by
  unfold g_X31_isPlan at h
  refine aw_body (own := "WasteHouse$PurityOdds") (ini := false) (ls := [(0, (2, 4956)), (1, (0, x1))]) rfl rfl (fun h => by cases h) (Nat.le_of_ble_eq_true rfl) rfl ?_
  generalize hQ : aw_isP (some (0, r)) (aw_wD Mz D') = Q
  have hq : ga_P D' → Q (some (0, r)) (aw_wD Mz D') := by rw [← hQ]; exact fun hP => ⟨rfl, rfl, hP⟩
  clear hQ
  refine x_iload_n dX31_isPlan_0 rfl ?_
  refine x_if_lt (tgt := 16) dX31_isPlan_1 (by decide) (fun c1 => ?_) (fun c1 => ?_)
  · rw [if_pos c1] at h
    refine x_iconst dX31_isPlan_16 (by decide) ?_
    obtain ⟨rfl, rfl⟩ := ga_end h
    exact x_iret dX31_isPlan_17 rfl rfl (show (0 : Int) ≤ 0 ∧ (0 : Int) < 2 from by decide) (hq hP)
  · rw [if_neg c1] at h
    refine x_iload_n dX31_isPlan_4 rfl ?_
    refine x_aload_n dX31_isPlan_5 rfl ?_
    refine x_getf (v := D 4956 3) dX31_isPlan_6 fl_X31_61 (aw_kS hS K_4956 (by decide)) rfl ?_
    refine x_icmp_ge (tgt := 16) dX31_isPlan_9 (by decide) (fun c9 => ?_) (fun c9 => ?_)
    · rw [if_pos c9] at h
      refine x_iconst dX31_isPlan_16 (by decide) ?_
      obtain ⟨rfl, rfl⟩ := ga_end h
      exact x_iret dX31_isPlan_17 rfl rfl (show (0 : Int) ≤ 0 ∧ (0 : Int) < 2 from by decide) (hq hP)
    · rw [if_neg c9] at h
      refine x_iconst dX31_isPlan_12 (by decide) ?_
      refine x_goto (tgt := 17) dX31_isPlan_13 (by decide) ?_
      obtain ⟨rfl, rfl⟩ := ga_end h
      exact x_iret dX31_isPlan_17 rfl rfl (show (0 : Int) ≤ 1 ∧ (1 : Int) < 2 from by decide) (hq hP)
theorem g_X31_isShare_ok {G : aw_G} {Mz : aw_M} {D D' : ga_D} {r : Int} {x0 x2 x4 : Int} (hS : aw_St Mz) (hP : ga_P D) (h : g_X31_isShare x0 x2 x4 D = some (r, D')) : aw_Runs yX31_isShare cX31_isShare 6 (some (.boolean)) 2 0 0 G [(1, x0), (1, x2), (1, x4)] (aw_wD Mz D) (aw_isP (some (0, r)) (aw_wD Mz D')) aw_no := by
  unfold g_X31_isShare at h
  refine aw_body (own := "WasteHouse$PurityOdds") (ini := false) (ls := [(0, (1, x0)), (2, (1, x2)), (4, (1, x4))]) rfl rfl (fun h => by cases h) (Nat.le_of_ble_eq_true rfl) rfl ?_
  generalize hQ : aw_isP (some (0, r)) (aw_wD Mz D') = Q
  have hq : ga_P D' → Q (some (0, r)) (aw_wD Mz D') := by rw [← hQ]; exact fun hP => ⟨rfl, rfl, hP⟩
  clear hQ
  refine x_lload_n dX31_isShare_0 rfl ?_
  refine x_lconst (v := 1) dX31_isShare_1 rfl ?_
  refine x_lload dX31_isShare_2 rfl ?_
  replace h := ga_bind_some h; obtain ⟨r4, D4, g4, h⟩ := h
  refine x_callS (c := 0) (sl := 0) (as := [(1, x2), (1, 1), (1, x4)]) (rest := []) dX31_isShare_4 (g_X31_isIn_ok hS hP g4) (lw_S q5403 q5404 q430 q5405) (show _ ∧ _ ∧ _ = some 3 from by decide +kernel) (by decide) (by decide) rfl (Nat.le_of_ble_eq_true rfl) ?_ aw_nox
  rintro _ _ ⟨rfl, rfl, hP4⟩ hx4
  refine x_if_eq (tgt := 23) dX31_isShare_7 (by decide) (fun c7 => ?_) (fun c7 => ?_)
  · rw [if_pos c7] at h
    refine x_iconst dX31_isShare_23 (by decide) ?_
    obtain ⟨rfl, rfl⟩ := ga_end h
    exact x_iret dX31_isShare_24 rfl rfl (show (0 : Int) ≤ 0 ∧ (0 : Int) < 2 from by decide) (hq hP4)
  · rw [if_neg c7] at h
    refine x_lload_n dX31_isShare_10 rfl ?_
    refine x_lconst (v := 0) dX31_isShare_11 rfl ?_
    refine x_lload_n dX31_isShare_12 rfl ?_
    replace h := ga_bind_some h; obtain ⟨r13, D13, g13, h⟩ := h
    refine x_callS (c := 0) (sl := 0) (as := [(1, x0), (1, 0), (1, x2)]) (rest := []) dX31_isShare_13 (g_X31_isIn_ok hS hP4 g13) (lw_S q5403 q5404 q430 q5405) (show _ ∧ _ ∧ _ = some 3 from by decide +kernel) (by decide) (by decide) rfl (Nat.le_of_ble_eq_true rfl) ?_ aw_nox
    rintro _ _ ⟨rfl, rfl, hP13⟩ hx13
    refine x_if_eq (tgt := 23) dX31_isShare_16 (by decide) (fun c16 => ?_) (fun c16 => ?_)
    · rw [if_pos c16] at h
      refine x_iconst dX31_isShare_23 (by decide) ?_
      obtain ⟨rfl, rfl⟩ := ga_end h
      exact x_iret dX31_isShare_24 rfl rfl (show (0 : Int) ≤ 0 ∧ (0 : Int) < 2 from by decide) (hq hP13)
    · rw [if_neg c16] at h
      refine x_iconst dX31_isShare_19 (by decide) ?_
      refine x_goto (tgt := 24) dX31_isShare_20 (by decide) ?_
      obtain ⟨rfl, rfl⟩ := ga_end h
      exact x_iret dX31_isShare_24 rfl rfl (show (0 : Int) ≤ 1 ∧ (1 : Int) < 2 from by decide) (hq hP13)
theorem g_X31_pass_l3_ok {G : aw_G} {M0 Mz : aw_M} {D' : ga_D} {Q : Option aw_V → aw_M → Prop} {r : Int} (hS : aw_St Mz) (hq : ga_P D' → Q none (aw_wD Mz D')) {k23 : Int → Int → Int → Int → Int → ga_D → ga_S} (hk23 : ∀ (x1 x2 x3 x5 x7 : Int) (D : ga_D), ga_P D → k23 x1 x2 x3 x5 x7 D = some (r, D') → aw_W G "WasteHouse$PurityOdds" cX31_pass none 12 2 false M0 Q aw_no 0 0 23 [(0, (2, 4956)), (1, (0, x1)), (2, (0, x2)), (3, (1, x3)), (5, (1, x5)), (7, (2, x7))] [] (aw_wD Mz D)) : ∀ {n : Nat} {x1 x2 x3 x5 x7 x8 : Int} {D : ga_D}, ga_P D → g_X31_pass_l3 n x1 x2 x3 x5 x7 x8 D k23 = some (r, D') → aw_W G "WasteHouse$PurityOdds" cX31_pass none 12 2 false M0 Q aw_no 0 0 3 [(0, (2, 4956)), (1, (0, x1)), (2, (0, x2)), (3, (1, x3)), (5, (1, x5)), (7, (2, x7)), (8, (0, x8))] [] (aw_wD Mz D) := by
  intro n
  induction n with
  | zero => intro x1 x2 x3 x5 x7 x8 D hP h; exact absurd (h : (none : ga_S) = some (r, D')) (by intro h; cases h)
  | succ n ih =>
    intro x1 x2 x3 x5 x7 x8 D hP h
    have ih : ∀ (x1 x2 x3 x5 x7 x8 : Int) (D : ga_D), ga_P D → g_X31_pass_l3 n x1 x2 x3 x5 x7 x8 D k23 = some (r, D') → aw_W G "WasteHouse$PurityOdds" cX31_pass none 12 2 false M0 Q aw_no 0 0 3 [(0, (2, 4956)), (1, (0, x1)), (2, (0, x2)), (3, (1, x3)), (5, (1, x5)), (7, (2, x7)), (8, (0, x8))] [] (aw_wD Mz D) := fun x1 x2 x3 x5 x7 x8 D hP h => ih hP h
    replace h : (if x2 < x8 then (k23 x1 x2 x3 x5 x7 D) else (ga_ck (0 ≤ x8 ∧ x8 < 9) (ga_let (ga_set D 4964 x8 1) (fun D16 => ga_let (aw_w32 (x8 + 1)) (fun v17 => g_X31_pass_l3 n x1 x2 x3 x5 x7 v17 D16 k23)))) : ga_S) = some (r, D') := h
    refine x_iload dX31_pass_3 rfl ?_
    refine x_iload_n dX31_pass_5 rfl ?_
    refine x_icmp_gt (tgt := 23) dX31_pass_6 (by decide) (fun c6 => ?_) (fun c6 => ?_)
    · rw [if_pos c6] at h
      refine x_locs [0, 1, 2, 3, 4, 5] (ls' := [(0, (2, 4956)), (1, (0, x1)), (2, (0, x2)), (3, (1, x3)), (5, (1, x5)), (7, (2, x7))]) rfl ?_
      exact hk23 _ _ _ _ _ _ hP h
    · rw [if_neg c6] at h
      refine x_aload_n dX31_pass_9 rfl ?_
      refine x_getf (v := 4964) dX31_pass_10 fl_X31_39 (aw_kS hS K_4956 (by decide)) (P_4956_12 hP) ?_
      refine x_iload dX31_pass_13 rfl ?_
      refine x_lconst (v := 1) dX31_pass_15 rfl ?_
      replace h := ga_ck_some h; obtain ⟨ha16, h⟩ := h
      replace h := ga_let_some h; obtain ⟨D16, eD16, h⟩ := h
      refine x_last dX31_pass_16 (aw_kS hS K_4964 (by decide)) (by decide) ha16.1 ha16.2 ?_
      refine x_nmD eD16 ?_
      have hP16 : ga_P D16 := ga_Pset eD16 hP (ga_Pn K_4964 rfl)
      replace h := ga_let_some h; obtain ⟨v17, ev17, h⟩ := h
      refine x_iinc (ls' := [(8, (0, v17)), (0, (2, 4956)), (1, (0, x1)), (2, (0, x2)), (3, (1, x3)), (5, (1, x5)), (7, (2, x7))]) dX31_pass_17 rfl ev17.symm (by decide) rfl ?_
      refine x_goto (tgt := 3) dX31_pass_20 (by decide) ?_
      refine x_locs [1, 2, 3, 4, 5, 6, 0] (ls' := [(0, (2, 4956)), (1, (0, x1)), (2, (0, x2)), (3, (1, x3)), (5, (1, x5)), (7, (2, x7)), (8, (0, v17))]) rfl ?_
      exact ih _ _ _ _ _ _ _ hP16 h
theorem g_X31_pass_l38_ok {G : aw_G} {M0 Mz : aw_M} {D' : ga_D} {Q : Option aw_V → aw_M → Prop} {r : Int} (hS : aw_St Mz) (hq : ga_P D' → Q none (aw_wD Mz D')) {k89 : Int → Int → Int → Int → Int → Int → Int → ga_D → ga_S} (hk89 : ∀ (x1 x2 x3 x5 x7 x8 x10 : Int) (D : ga_D), ga_P D → k89 x1 x2 x3 x5 x7 x8 x10 D = some (r, D') → aw_W G "WasteHouse$PurityOdds" cX31_pass none 12 2 false M0 Q aw_no 0 0 89 [(0, (2, 4956)), (1, (0, x1)), (2, (0, x2)), (3, (1, x3)), (5, (1, x5)), (7, (2, x7)), (8, (1, x8)), (10, (0, x10))] [] (aw_wD Mz D)) : ∀ {n : Nat} {x1 x2 x3 x5 x7 x8 x10 x11 : Int} {D : ga_D}, ga_P D → g_X31_pass_l38 n x1 x2 x3 x5 x7 x8 x10 x11 D k89 = some (r, D') → aw_W G "WasteHouse$PurityOdds" cX31_pass none 12 2 false M0 Q aw_no 0 0 38 [(0, (2, 4956)), (1, (0, x1)), (2, (0, x2)), (3, (1, x3)), (5, (1, x5)), (7, (2, x7)), (8, (1, x8)), (10, (0, x10)), (11, (0, x11))] [] (aw_wD Mz D) := by
  intro n
  induction n with
  | zero => intro x1 x2 x3 x5 x7 x8 x10 x11 D hP h; exact absurd (h : (none : ga_S) = some (r, D')) (by intro h; cases h)
  | succ n ih =>
    intro x1 x2 x3 x5 x7 x8 x10 x11 D hP h
    have ih : ∀ (x1 x2 x3 x5 x7 x8 x10 x11 : Int) (D : ga_D), ga_P D → g_X31_pass_l38 n x1 x2 x3 x5 x7 x8 x10 x11 D k89 = some (r, D') → aw_W G "WasteHouse$PurityOdds" cX31_pass none 12 2 false M0 Q aw_no 0 0 38 [(0, (2, 4956)), (1, (0, x1)), (2, (0, x2)), (3, (1, x3)), (5, (1, x5)), (7, (2, x7)), (8, (1, x8)), (10, (0, x10)), (11, (0, x11))] [] (aw_wD Mz D) := fun x1 x2 x3 x5 x7 x8 x10 x11 D hP h => ih hP h
    replace h : (if x11 < 0 then (k89 x1 x2 x3 x5 x7 x8 x10 D) else (ga_ck (0 ≤ x11 ∧ x11 < 9) (if x11 ≤ 0 then (ga_ck (0 ≤ x11 ∧ x11 < 9) (ga_let (ga_set D 4964 x11 (aw_w64 ((aw_w64 ((D 4964 x11) * (aw_w64 (x5 - x3)))) + 0))) (fun D82 => ga_let (aw_w32 (x11 + (-1))) (fun v83 => g_X31_pass_l38 n x1 x2 x3 x5 x7 x8 x10 v83 D82 k89)))) else (ga_ck (0 ≤ aw_w32 (x11 - 1) ∧ aw_w32 (x11 - 1) < 9) (ga_ck (0 ≤ x11 ∧ x11 < 9) (ga_let (ga_set D 4964 x11 (aw_w64 ((aw_w64 ((D 4964 x11) * (aw_w64 (x5 - x3)))) + (aw_w64 ((D 4964 (aw_w32 (x11 - 1))) * x3))))) (fun D82 => ga_let (aw_w32 (x11 + (-1))) (fun v83 => g_X31_pass_l38 n x1 x2 x3 x5 x7 x8 x10 v83 D82 k89))))))) : ga_S) = some (r, D') := h
    refine x_iload dX31_pass_38 rfl ?_
    refine x_if_lt (tgt := 89) dX31_pass_40 (by decide) (fun c40 => ?_) (fun c40 => ?_)
    · rw [if_pos c40] at h
      refine x_locs [0, 1, 2, 3, 4, 5, 6, 7] (ls' := [(0, (2, 4956)), (1, (0, x1)), (2, (0, x2)), (3, (1, x3)), (5, (1, x5)), (7, (2, x7)), (8, (1, x8)), (10, (0, x10))]) rfl ?_
      exact hk89 _ _ _ _ _ _ _ _ hP h
    · rw [if_neg c40] at h
      refine x_aload_n dX31_pass_43 rfl ?_
      refine x_getf (v := 4964) dX31_pass_44 fl_X31_39 (aw_kS hS K_4956 (by decide)) (P_4956_12 hP) ?_
      refine x_iload dX31_pass_47 rfl ?_
      refine x_aload_n dX31_pass_49 rfl ?_
      refine x_getf (v := 4964) dX31_pass_50 fl_X31_39 (aw_kS hS K_4956 (by decide)) (P_4956_12 hP) ?_
      refine x_iload dX31_pass_53 rfl ?_
      replace h := ga_ck_some h; obtain ⟨ha55, h⟩ := h
      refine x_lald (v := D 4964 x11) dX31_pass_55 (aw_kS hS K_4964 (by decide)) ha55.1 ha55.2 rfl ?_
      refine x_lload dX31_pass_56 rfl ?_
      refine x_lload_n dX31_pass_58 rfl ?_
      refine x_lsub dX31_pass_59 rfl ?_
      refine x_lmul dX31_pass_60 rfl ?_
      refine x_iload dX31_pass_61 rfl ?_
      refine x_if_le (tgt := 80) dX31_pass_63 (by decide) (fun c63 => ?_) (fun c63 => ?_)
      · rw [if_pos c63] at h
        refine x_lconst (v := 0) dX31_pass_80 rfl ?_
        refine x_ladd dX31_pass_81 rfl ?_
        replace h := ga_ck_some h; obtain ⟨ha82, h⟩ := h
        replace h := ga_let_some h; obtain ⟨D82, eD82, h⟩ := h
        refine x_last dX31_pass_82 (aw_kS hS K_4964 (by decide)) (by decide) ha82.1 ha82.2 ?_
        refine x_nmD eD82 ?_
        have hP82 : ga_P D82 := ga_Pset eD82 hP (ga_Pn K_4964 rfl)
        replace h := ga_let_some h; obtain ⟨v83, ev83, h⟩ := h
        refine x_iinc (ls' := [(11, (0, v83)), (0, (2, 4956)), (1, (0, x1)), (2, (0, x2)), (3, (1, x3)), (5, (1, x5)), (7, (2, x7)), (8, (1, x8)), (10, (0, x10))]) dX31_pass_83 rfl ev83.symm (by decide) rfl ?_
        refine x_goto (tgt := 38) dX31_pass_86 (by decide) ?_
        refine x_locs [1, 2, 3, 4, 5, 6, 7, 8, 0] (ls' := [(0, (2, 4956)), (1, (0, x1)), (2, (0, x2)), (3, (1, x3)), (5, (1, x5)), (7, (2, x7)), (8, (1, x8)), (10, (0, x10)), (11, (0, v83))]) rfl ?_
        exact ih _ _ _ _ _ _ _ _ _ hP82 h
      · rw [if_neg c63] at h
        refine x_aload_n dX31_pass_66 rfl ?_
        refine x_getf (v := 4964) dX31_pass_67 fl_X31_39 (aw_kS hS K_4956 (by decide)) (P_4956_12 hP) ?_
        refine x_iload dX31_pass_70 rfl ?_
        refine x_iconst dX31_pass_72 (by decide) ?_
        refine x_isub dX31_pass_73 rfl ?_
        replace h := ga_ck_some h; obtain ⟨ha74, h⟩ := h
        refine x_lald (v := D 4964 (aw_w32 (x11 - 1))) dX31_pass_74 (aw_kS hS K_4964 (by decide)) ha74.1 ha74.2 rfl ?_
        refine x_lload_n dX31_pass_75 rfl ?_
        refine x_lmul dX31_pass_76 rfl ?_
        refine x_goto (tgt := 81) dX31_pass_77 (by decide) ?_
        refine x_ladd dX31_pass_81 rfl ?_
        replace h := ga_ck_some h; obtain ⟨ha82, h⟩ := h
        replace h := ga_let_some h; obtain ⟨D82, eD82, h⟩ := h
        refine x_last dX31_pass_82 (aw_kS hS K_4964 (by decide)) (by decide) ha82.1 ha82.2 ?_
        refine x_nmD eD82 ?_
        have hP82 : ga_P D82 := ga_Pset eD82 hP (ga_Pn K_4964 rfl)
        replace h := ga_let_some h; obtain ⟨v83, ev83, h⟩ := h
        refine x_iinc (ls' := [(11, (0, v83)), (0, (2, 4956)), (1, (0, x1)), (2, (0, x2)), (3, (1, x3)), (5, (1, x5)), (7, (2, x7)), (8, (1, x8)), (10, (0, x10))]) dX31_pass_83 rfl ev83.symm (by decide) rfl ?_
        refine x_goto (tgt := 38) dX31_pass_86 (by decide) ?_
        refine x_locs [1, 2, 3, 4, 5, 6, 7, 8, 0] (ls' := [(0, (2, 4956)), (1, (0, x1)), (2, (0, x2)), (3, (1, x3)), (5, (1, x5)), (7, (2, x7)), (8, (1, x8)), (10, (0, x10)), (11, (0, v83))]) rfl ?_
        exact ih _ _ _ _ _ _ _ _ _ hP82 h
theorem g_X31_pass_l29_ok {G : aw_G} {M0 Mz : aw_M} {D' : ga_D} {Q : Option aw_V → aw_M → Prop} {r : Int} (hS : aw_St Mz) (hq : ga_P D' → Q none (aw_wD Mz D')) {k102 : Int → Int → Int → ga_D → ga_S} (hk102 : ∀ (x2 x7 x8 : Int) (D : ga_D), ga_P D → k102 x2 x7 x8 D = some (r, D') → aw_W G "WasteHouse$PurityOdds" cX31_pass none 12 2 false M0 Q aw_no 0 0 102 [(0, (2, 4956)), (2, (0, x2)), (7, (2, x7)), (8, (1, x8))] [] (aw_wD Mz D)) : ∀ {n : Nat} {x1 x2 x3 x5 x7 x8 x10 : Int} {D : ga_D}, ga_P D → g_X31_pass_l29 n x1 x2 x3 x5 x7 x8 x10 D k102 = some (r, D') → aw_W G "WasteHouse$PurityOdds" cX31_pass none 12 2 false M0 Q aw_no 0 0 29 [(0, (2, 4956)), (1, (0, x1)), (2, (0, x2)), (3, (1, x3)), (5, (1, x5)), (7, (2, x7)), (8, (1, x8)), (10, (0, x10))] [] (aw_wD Mz D) := by
  intro n
  induction n with
  | zero => intro x1 x2 x3 x5 x7 x8 x10 D hP h; exact absurd (h : (none : ga_S) = some (r, D')) (by intro h; cases h)
  | succ n ih =>
    intro x1 x2 x3 x5 x7 x8 x10 D hP h
    have ih : ∀ (x1 x2 x3 x5 x7 x8 x10 : Int) (D : ga_D), ga_P D → g_X31_pass_l29 n x1 x2 x3 x5 x7 x8 x10 D k102 = some (r, D') → aw_W G "WasteHouse$PurityOdds" cX31_pass none 12 2 false M0 Q aw_no 0 0 29 [(0, (2, 4956)), (1, (0, x1)), (2, (0, x2)), (3, (1, x3)), (5, (1, x5)), (7, (2, x7)), (8, (1, x8)), (10, (0, x10))] [] (aw_wD Mz D) := fun x1 x2 x3 x5 x7 x8 x10 D hP h => ih hP h
    replace h : (if x1 ≤ x10 then (k102 x2 x7 x8 D) else (g_X31_pass_l38 aw_fu x1 x2 x3 x5 x7 x8 x10 x2 D (fun x1 x2 x3 x5 x7 x8 x10 D89 => ga_let (aw_w64 (x8 * x5)) (fun v94 => ga_let (aw_w32 (x10 + 1)) (fun v96 => g_X31_pass_l29 n x1 x2 x3 x5 x7 v94 v96 D89 k102)))) : ga_S) = some (r, D') := h
    refine x_iload dX31_pass_29 rfl ?_
    refine x_iload_n dX31_pass_31 rfl ?_
    refine x_icmp_ge (tgt := 102) dX31_pass_32 (by decide) (fun c32 => ?_) (fun c32 => ?_)
    · rw [if_pos c32] at h
      refine x_locs [0, 2, 5, 6] (ls' := [(0, (2, 4956)), (2, (0, x2)), (7, (2, x7)), (8, (1, x8))]) rfl ?_
      exact hk102 _ _ _ _ hP h
    · rw [if_neg c32] at h
      refine x_iload_n dX31_pass_35 rfl ?_
      refine x_istore (ls' := [(11, (0, x2)), (0, (2, 4956)), (1, (0, x1)), (2, (0, x2)), (3, (1, x3)), (5, (1, x5)), (7, (2, x7)), (8, (1, x8)), (10, (0, x10))]) dX31_pass_36 (by decide) rfl ?_
      refine x_locs [1, 2, 3, 4, 5, 6, 7, 8, 0] (ls' := [(0, (2, 4956)), (1, (0, x1)), (2, (0, x2)), (3, (1, x3)), (5, (1, x5)), (7, (2, x7)), (8, (1, x8)), (10, (0, x10)), (11, (0, x2))]) rfl ?_
      refine g_X31_pass_l38_ok hS hq (fun x1 x2 x3 x5 x7 x8 x10 D89 hP h => ?_) hP h
      · refine x_lload dX31_pass_89 rfl ?_
        refine x_lload dX31_pass_91 rfl ?_
        refine x_lmul dX31_pass_93 rfl ?_
        replace h := ga_let_some h; obtain ⟨v94, ev94, h⟩ := h
        refine x_nm ev94 ?_
        refine x_lstore (ls' := [(8, (1, v94)), (0, (2, 4956)), (1, (0, x1)), (2, (0, x2)), (3, (1, x3)), (5, (1, x5)), (7, (2, x7)), (10, (0, x10))]) dX31_pass_94 (by decide) rfl ?_
        replace h := ga_let_some h; obtain ⟨v96, ev96, h⟩ := h
        refine x_iinc (ls' := [(10, (0, v96)), (8, (1, v94)), (0, (2, 4956)), (1, (0, x1)), (2, (0, x2)), (3, (1, x3)), (5, (1, x5)), (7, (2, x7))]) dX31_pass_96 rfl ev96.symm (by decide) rfl ?_
        refine x_goto (tgt := 29) dX31_pass_99 (by decide) ?_
        refine x_locs [2, 3, 4, 5, 6, 7, 1, 0] (ls' := [(0, (2, 4956)), (1, (0, x1)), (2, (0, x2)), (3, (1, x3)), (5, (1, x5)), (7, (2, x7)), (8, (1, v94)), (10, (0, v96))]) rfl ?_
        exact ih _ _ _ _ _ _ _ _ hP h
theorem g_X31_pass_ok {G : aw_G} {Mz : aw_M} {D D' : ga_D} {r : Int} {x1 x2 x3 x5 x7 : Int} (hS : aw_St Mz) (hP : ga_P D) (h : g_X31_pass x1 x2 x3 x5 x7 D = some (r, D')) : aw_Runs yX31_pass cX31_pass 12 none 2 0 0 G [(2, 4956), (0, x1), (0, x2), (1, x3), (1, x5), (2, x7)] (aw_wD Mz D) (aw_isP none (aw_wD Mz D')) aw_no := by
  unfold g_X31_pass at h
  refine aw_body (own := "WasteHouse$PurityOdds") (ini := false) (ls := [(0, (2, 4956)), (1, (0, x1)), (2, (0, x2)), (3, (1, x3)), (5, (1, x5)), (7, (2, x7))]) rfl rfl (fun h => by cases h) (Nat.le_of_ble_eq_true rfl) rfl ?_
  generalize hQ : aw_isP none (aw_wD Mz D') = Q
  have hq : ga_P D' → Q none (aw_wD Mz D') := by rw [← hQ]; exact fun hP => ⟨rfl, rfl, hP⟩
  clear hQ
  refine x_iconst dX31_pass_0 (by decide) ?_
  refine x_istore (ls' := [(8, (0, 0)), (0, (2, 4956)), (1, (0, x1)), (2, (0, x2)), (3, (1, x3)), (5, (1, x5)), (7, (2, x7))]) dX31_pass_1 (by decide) rfl ?_
  refine x_locs [1, 2, 3, 4, 5, 6, 0] (ls' := [(0, (2, 4956)), (1, (0, x1)), (2, (0, x2)), (3, (1, x3)), (5, (1, x5)), (7, (2, x7)), (8, (0, 0))]) rfl ?_
  refine g_X31_pass_l3_ok hS hq (fun x1 x2 x3 x5 x7 D23 hP h => ?_) hP h
  · refine x_lconst (v := 1) dX31_pass_23 rfl ?_
    refine x_lstore (ls' := [(8, (1, 1)), (0, (2, 4956)), (1, (0, x1)), (2, (0, x2)), (3, (1, x3)), (5, (1, x5)), (7, (2, x7))]) dX31_pass_24 (by decide) rfl ?_
    refine x_iconst dX31_pass_26 (by decide) ?_
    refine x_istore (ls' := [(10, (0, 0)), (8, (1, 1)), (0, (2, 4956)), (1, (0, x1)), (2, (0, x2)), (3, (1, x3)), (5, (1, x5)), (7, (2, x7))]) dX31_pass_27 (by decide) rfl ?_
    refine x_locs [2, 3, 4, 5, 6, 7, 1, 0] (ls' := [(0, (2, 4956)), (1, (0, x1)), (2, (0, x2)), (3, (1, x3)), (5, (1, x5)), (7, (2, x7)), (8, (1, 1)), (10, (0, 0))]) rfl ?_
    refine g_X31_pass_l29_ok hS hq (fun x2 x7 x8 D102 hP h => ?_) hP h
    · refine x_aload dX31_pass_102 rfl ?_
      refine x_aload_n dX31_pass_104 rfl ?_
      refine x_getf (v := 4964) dX31_pass_105 fl_X31_39 (aw_kS hS K_4956 (by decide)) (P_4956_12 hP) ?_
      refine x_iload_n dX31_pass_108 rfl ?_
      replace h := ga_ck_some h; obtain ⟨ha109, h⟩ := h
      refine x_lald (v := D102 4964 x2) dX31_pass_109 (aw_kS hS K_4964 (by decide)) ha109.1 ha109.2 rfl ?_
      refine x_lload dX31_pass_110 rfl ?_
      replace h := ga_bind_some h; obtain ⟨r112, D112, g112, h⟩ := h
      replace h := ga_ck_some h; obtain ⟨hk112_0, h⟩ := h
      refine x_callV (c := 0) (sl := 0) (as := [(1, D102 4964 x2), (1, x8)]) (rest := []) dX31_pass_112 (g_X32_set_ok hS hP g112) (lw_V q5440 q5441 q5442 q431 q5443) (aw_kS hS hk112_0 (by decide)) rfl rfl (show _ ∧ _ ∧ _ ∧ _ = some 2 from by decide +kernel) (by decide) (by decide) rfl (Nat.le_of_ble_eq_true rfl) ?_ aw_nox
      rintro _ _ ⟨rfl, rfl, hP112⟩ hx112
      obtain ⟨rfl, rfl⟩ := ga_end h
      exact x_vret dX31_pass_115 rfl (hq hP112)
theorem g_X31_odds_ok {G : aw_G} {Mz : aw_M} {D D' : ga_D} {r : Int} {x1 x2 x4 x6 : Int} (hS : aw_St Mz) (hP : ga_P D) (h : g_X31_odds x1 x2 x4 x6 D = some (r, D')) : aw_Runs yX31_odds cX31_odds 7 (some (.long)) 3 0 0 G [(2, 4956), (0, x1), (1, x2), (1, x4), (0, x6)] (aw_wD Mz D) (aw_isP (some (1, r)) (aw_wD Mz D')) aw_no := by
  unfold g_X31_odds at h
  refine aw_body (own := "WasteHouse$PurityOdds") (ini := false) (ls := [(0, (2, 4956)), (1, (0, x1)), (2, (1, x2)), (4, (1, x4)), (6, (0, x6))]) rfl rfl (fun h => by cases h) (Nat.le_of_ble_eq_true rfl) rfl ?_
  generalize hQ : aw_isP (some (1, r)) (aw_wD Mz D') = Q
  have hq : ga_P D' → Q (some (1, r)) (aw_wD Mz D') := by rw [← hQ]; exact fun hP => ⟨rfl, rfl, hP⟩
  clear hQ
  refine x_aload_n dX31_odds_0 rfl ?_
  refine x_iload_n dX31_odds_1 rfl ?_
  replace h := ga_bind_some h; obtain ⟨r2, D2, g2, h⟩ := h
  refine x_callV (c := 0) (sl := 0) (as := [(0, x1)]) (rest := []) dX31_odds_2 (g_X31_isPlan_ok hS hP g2) (lw_V q6276 q6278 qs165 q430 q6279) (aw_kS hS K_4956 (by decide)) rfl rfl (show _ ∧ _ ∧ _ ∧ _ = some 1 from by decide +kernel) (by decide) (by decide) rfl (Nat.le_of_ble_eq_true rfl) ?_ aw_nox
  rintro _ _ ⟨rfl, rfl, hP2⟩ hx2
  refine x_if_eq (tgt := 20) dX31_odds_5 (by decide) (fun c5 => ?_) (fun c5 => ?_)
  · rw [if_pos c5] at h
    refine x_ldc2 (z := (-1)) dX31_odds_20 q5435 (by decide) ?_
    obtain ⟨rfl, rfl⟩ := ga_end h
    exact x_lret dX31_odds_23 rfl (hq hP2)
  · rw [if_neg c5] at h
    refine x_lload_n dX31_odds_8 rfl ?_
    refine x_lload dX31_odds_9 rfl ?_
    refine x_ldc2 (z := 20) dX31_odds_11 q6280 (by decide) ?_
    replace h := ga_bind_some h; obtain ⟨r14, D14, g14, h⟩ := h
    refine x_callS (c := 0) (sl := 0) (as := [(1, x2), (1, x4), (1, 20)]) (rest := []) dX31_odds_14 (g_X31_isShare_ok hS hP2 g14) (lw_S q6281 q6282 q430 q6283) (show _ ∧ _ ∧ _ = some 3 from by decide +kernel) (by decide) (by decide) rfl (Nat.le_of_ble_eq_true rfl) ?_ aw_nox
    rintro _ _ ⟨rfl, rfl, hP14⟩ hx14
    refine x_if_ne (tgt := 24) dX31_odds_17 (by decide) (fun c17 => ?_) (fun c17 => ?_)
    · rw [if_pos c17] at h
      refine x_aload_n dX31_odds_24 rfl ?_
      refine x_aload_n dX31_odds_25 rfl ?_
      refine x_getf (v := 4957) dX31_odds_26 fl_X31_7 (aw_kS hS K_4956 (by decide)) (P_4956_1 hP14) ?_
      refine x_iload_n dX31_odds_29 rfl ?_
      replace h := ga_ck_some h; obtain ⟨ha30, h⟩ := h
      refine x_iald (v := D14 4957 x1) dX31_odds_30 (aw_kS hS K_4957 (by decide)) ha30.1 ha30.2 rfl ?_
      refine x_aload_n dX31_odds_31 rfl ?_
      refine x_getf (v := 4958) dX31_odds_32 fl_X31_13 (aw_kS hS K_4956 (by decide)) (P_4956_2 hP14) ?_
      refine x_iload_n dX31_odds_35 rfl ?_
      replace h := ga_ck_some h; obtain ⟨ha36, h⟩ := h
      refine x_iald (v := D14 4958 x1) dX31_odds_36 (aw_kS hS K_4958 (by decide)) ha36.1 ha36.2 rfl ?_
      refine x_lload_n dX31_odds_37 rfl ?_
      refine x_lload dX31_odds_38 rfl ?_
      refine x_aload_n dX31_odds_40 rfl ?_
      refine x_getf (v := 4965) dX31_odds_41 fl_X31_43 (aw_kS hS K_4956 (by decide)) (P_4956_13 hP14) ?_
      replace h := ga_bind_some h; obtain ⟨r44, D44, g44, h⟩ := h
      refine x_callV (c := 0) (sl := 0) (as := [(0, D14 4957 x1), (0, D14 4958 x1), (1, x2), (1, x4), (2, 4965)]) (rest := []) dX31_odds_44 (g_X31_pass_ok hS hP14 g44) (lw_V q6284 q6286 qs166 q430 q6287) (aw_kS hS K_4956 (by decide)) rfl rfl (show _ ∧ _ ∧ _ ∧ _ = some 5 from by decide +kernel) (by decide) (by decide) rfl (Nat.le_of_ble_eq_true rfl) ?_ aw_nox
      rintro _ _ ⟨rfl, rfl, hP44⟩ hx44
      refine x_aload_n dX31_odds_47 rfl ?_
      refine x_getf (v := 4965) dX31_odds_48 fl_X31_43 (aw_kS hS K_4956 (by decide)) (P_4956_13 hP44) ?_
      refine x_iload dX31_odds_51 rfl ?_
      replace h := ga_bind_some h; obtain ⟨r53, D53, g53, h⟩ := h
      refine x_callV (c := 0) (sl := 0) (as := [(0, x6)]) (rest := []) dX31_odds_53 (g_X32_part_ok hS hP44 g53) (lw_V q5485 q5486 q5487 q431 q5488) (aw_kS hS K_4965 (by decide)) rfl rfl (show _ ∧ _ ∧ _ ∧ _ = some 1 from by decide +kernel) (by decide) (by decide) rfl (Nat.le_of_ble_eq_true rfl) ?_ aw_nox
      rintro _ _ ⟨rfl, rfl, hP53⟩ hx53
      obtain ⟨rfl, rfl⟩ := ga_end h
      exact x_lret dX31_odds_56 rfl (hq hP53)
    · rw [if_neg c17] at h
      refine x_ldc2 (z := (-1)) dX31_odds_20 q5435 (by decide) ?_
      obtain ⟨rfl, rfl⟩ := ga_end h
      exact x_lret dX31_odds_23 rfl (hq hP14)
theorem g_X31_riskOf_j15_ok {G : aw_G} {M0 Mz : aw_M} {D' : ga_D} {Q : Option aw_V → aw_M → Prop} {r : Int} (hS : aw_St Mz) (hq : ga_P D' → Q none (aw_wD Mz D')) {x1 x2 x3 x4 s0 : Int} {D : ga_D} (hP : ga_P D) (h : g_X31_riskOf_j15 x1 x2 x3 x4 s0 D = some (r, D')) : aw_W G "WasteHouse$PurityOdds" cX31_riskOf none 6 3 false M0 Q aw_no 0 0 15 [(0, (2, 4956)), (1, (0, x1)), (2, (0, x2)), (3, (0, x3)), (4, (2, x4))] [(2, s0)] (aw_wD Mz D) := by
  unfold g_X31_riskOf_j15 at h
  refine x_astore (ls' := [(5, (2, s0)), (0, (2, 4956)), (1, (0, x1)), (2, (0, x2)), (3, (0, x3)), (4, (2, x4))]) dX31_riskOf_15 (by decide) rfl ?_
  refine x_aload_n dX31_riskOf_17 rfl ?_
  refine x_iload_n dX31_riskOf_18 rfl ?_
  refine x_iload_n dX31_riskOf_19 rfl ?_
  refine x_aload dX31_riskOf_20 rfl ?_
  replace h := ga_ck_some h; obtain ⟨hk22_0, h⟩ := h
  refine x_getf (v := D s0 0) dX31_riskOf_22 fl_X31_90 (aw_kS hS hk22_0 (by decide)) rfl ?_
  refine x_aload dX31_riskOf_25 rfl ?_
  refine x_getf (v := D s0 1) dX31_riskOf_27 fl_X31_93 (aw_kS hS hk22_0 (by decide)) rfl ?_
  refine x_aload dX31_riskOf_30 rfl ?_
  replace h := ga_bind_some h; obtain ⟨r32, D32, g32, h⟩ := h
  refine x_callV (c := 0) (sl := 0) (as := [(0, x1), (0, x2), (1, D s0 0), (1, D s0 1), (2, x4)]) (rest := []) dX31_riskOf_32 (g_X31_pass_ok hS hP g32) (lw_V q6284 q6286 qs166 q430 q6287) (aw_kS hS K_4956 (by decide)) rfl rfl (show _ ∧ _ ∧ _ ∧ _ = some 5 from by decide +kernel) (by decide) (by decide) rfl (Nat.le_of_ble_eq_true rfl) ?_ aw_nox
  rintro _ _ ⟨rfl, rfl, hP32⟩ hx32
  refine x_iload_n dX31_riskOf_35 rfl ?_
  refine x_if_ne (tgt := 70) dX31_riskOf_36 (by decide) (fun c36 => ?_) (fun c36 => ?_)
  · rw [if_pos c36] at h
    obtain ⟨rfl, rfl⟩ := ga_end h
    exact x_vret dX31_riskOf_70 rfl (hq hP32)
  · rw [if_neg c36] at h
    refine x_aload dX31_riskOf_39 rfl ?_
    refine x_aload dX31_riskOf_41 rfl ?_
    replace h := ga_ck_some h; obtain ⟨hk43_0, h⟩ := h
    refine x_getf (v := D32 x4 1) dX31_riskOf_43 fl_X31_93 (aw_kS hS hk43_0 (by decide)) rfl ?_
    refine x_aload dX31_riskOf_46 rfl ?_
    refine x_getf (v := D32 x4 0) dX31_riskOf_48 fl_X31_90 (aw_kS hS hk43_0 (by decide)) rfl ?_
    refine x_lsub dX31_riskOf_51 rfl ?_
    replace h := ga_let_some h; obtain ⟨D52, eD52, h⟩ := h
    refine x_putf dX31_riskOf_52 fl_X31_90 rfl (aw_kS hS hk43_0 (by decide)) (ga_ge hk43_0 rfl) trivial ?_
    refine x_nmD eD52 ?_
    have hP52 : ga_P D52 := ga_Pset eD52 hP32 (ga_Pn hk43_0 rfl)
    refine x_aload dX31_riskOf_55 rfl ?_
    refine x_aload dX31_riskOf_57 rfl ?_
    refine x_getf (v := D52 x4 0) dX31_riskOf_59 fl_X31_90 (aw_kS hS hk43_0 (by decide)) rfl ?_
    refine x_aload dX31_riskOf_62 rfl ?_
    refine x_getf (v := D52 x4 1) dX31_riskOf_64 fl_X31_93 (aw_kS hS hk43_0 (by decide)) rfl ?_
    replace h := ga_bind_some h; obtain ⟨r67, D67, g67, h⟩ := h
    refine x_callV (c := 0) (sl := 0) (as := [(1, D52 x4 0), (1, D52 x4 1)]) (rest := []) dX31_riskOf_67 (g_X32_set_ok hS hP52 g67) (lw_V q5440 q5441 q5442 q431 q5443) (aw_kS hS hk43_0 (by decide)) rfl rfl (show _ ∧ _ ∧ _ ∧ _ = some 2 from by decide +kernel) (by decide) (by decide) rfl (Nat.le_of_ble_eq_true rfl) ?_ aw_nox
    rintro _ _ ⟨rfl, rfl, hP67⟩ hx67
    obtain ⟨rfl, rfl⟩ := ga_end h
    exact x_vret dX31_riskOf_70 rfl (hq hP67)
theorem g_X31_riskOf_ok {G : aw_G} {Mz : aw_M} {D D' : ga_D} {r : Int} {x1 x2 x3 x4 : Int} (hS : aw_St Mz) (hP : ga_P D) (h : g_X31_riskOf x1 x2 x3 x4 D = some (r, D')) : aw_Runs yX31_riskOf cX31_riskOf 6 none 3 0 0 G [(2, 4956), (0, x1), (0, x2), (0, x3), (2, x4)] (aw_wD Mz D) (aw_isP none (aw_wD Mz D')) aw_no := by
  unfold g_X31_riskOf at h
  refine aw_body (own := "WasteHouse$PurityOdds") (ini := false) (ls := [(0, (2, 4956)), (1, (0, x1)), (2, (0, x2)), (3, (0, x3)), (4, (2, x4))]) rfl rfl (fun h => by cases h) (Nat.le_of_ble_eq_true rfl) rfl ?_
  generalize hQ : aw_isP none (aw_wD Mz D') = Q
  have hq : ga_P D' → Q none (aw_wD Mz D') := by rw [← hQ]; exact fun hP => ⟨rfl, rfl, hP⟩
  clear hQ
  refine x_iload_n dX31_riskOf_0 rfl ?_
  refine x_if_ne (tgt := 11) dX31_riskOf_1 (by decide) (fun c1 => ?_) (fun c1 => ?_)
  · rw [if_pos c1] at h
    refine x_aload_n dX31_riskOf_11 rfl ?_
    refine x_getf (v := 4963) dX31_riskOf_12 fl_X31_36 (aw_kS hS K_4956 (by decide)) (P_4956_10 hP) ?_
    refine g_X31_riskOf_j15_ok hS hq hP h
  · rw [if_neg c1] at h
    refine x_aload_n dX31_riskOf_4 rfl ?_
    refine x_getf (v := 4962) dX31_riskOf_5 fl_X31_32 (aw_kS hS K_4956 (by decide)) (P_4956_9 hP) ?_
    refine x_goto (tgt := 15) dX31_riskOf_8 (by decide) ?_
    refine g_X31_riskOf_j15_ok hS hq hP h
theorem g_X31_best_j182_ok {G : aw_G} {M0 Mz : aw_M} {D' : ga_D} {Q : Option aw_V → aw_M → Prop} {r : Int} (hS : aw_St Mz) (hq : ga_P D' → Q (some (0, r)) (aw_wD Mz D')) {k105 : Int → Int → Int → Int → Int → ga_D → ga_S} (hk105 : ∀ (x1 x10 x11 x12 x13 : Int) (D : ga_D), ga_P D → k105 x1 x10 x11 x12 x13 D = some (r, D') → aw_W G "WasteHouse$PurityOdds" cX31_best (some (.int)) 15 4 false M0 Q aw_no 0 0 105 [(0, (2, 4956)), (1, (0, x1)), (10, (0, x10)), (11, (0, x11)), (12, (0, x12)), (13, (0, x13))] [] (aw_wD Mz D)) {x1 x12 x13 x14 : Int} {D : ga_D} (hP : ga_P D) (h : g_X31_best_j182 x1 x12 x13 x14 D k105 = some (r, D')) : aw_W G "WasteHouse$PurityOdds" cX31_best (some (.int)) 15 4 false M0 Q aw_no 0 0 182 [(0, (2, 4956)), (1, (0, x1)), (12, (0, x12)), (13, (0, x13)), (14, (2, x14))] [] (aw_wD Mz D) := by
  unfold g_X31_best_j182 at h
  refine x_aload_n dX31_best_182 rfl ?_
  refine x_getf (v := 4967) dX31_best_183 fl_X31_49 (aw_kS hS K_4956 (by decide)) (P_4956_15 hP) ?_
  refine x_aload dX31_best_186 rfl ?_
  replace h := ga_ck_some h; obtain ⟨hk188_0, h⟩ := h
  refine x_getf (v := D x14 0) dX31_best_188 fl_X31_90 (aw_kS hS hk188_0 (by decide)) rfl ?_
  refine x_aload dX31_best_191 rfl ?_
  refine x_getf (v := D x14 1) dX31_best_193 fl_X31_93 (aw_kS hS hk188_0 (by decide)) rfl ?_
  replace h := ga_bind_some h; obtain ⟨r196, D196, g196, h⟩ := h
  refine x_callV (c := 0) (sl := 0) (as := [(1, D x14 0), (1, D x14 1)]) (rest := []) dX31_best_196 (g_X32_set_ok hS hP g196) (lw_V q5440 q5441 q5442 q431 q5443) (aw_kS hS K_4967 (by decide)) rfl rfl (show _ ∧ _ ∧ _ ∧ _ = some 2 from by decide +kernel) (by decide) (by decide) rfl (Nat.le_of_ble_eq_true rfl) ?_ aw_nox
  rintro _ _ ⟨rfl, rfl, hP196⟩ hx196
  refine x_iload dX31_best_199 rfl ?_
  refine x_istore (ls' := [(10, (0, x12)), (0, (2, 4956)), (1, (0, x1)), (12, (0, x12)), (13, (0, x13)), (14, (2, x14))]) dX31_best_201 (by decide) rfl ?_
  refine x_iload dX31_best_203 rfl ?_
  refine x_istore (ls' := [(11, (0, x13)), (10, (0, x12)), (0, (2, 4956)), (1, (0, x1)), (12, (0, x12)), (13, (0, x13)), (14, (2, x14))]) dX31_best_205 (by decide) rfl ?_
  replace h := ga_let_some h; obtain ⟨v207, ev207, h⟩ := h
  refine x_iinc (ls' := [(13, (0, v207)), (11, (0, x13)), (10, (0, x12)), (0, (2, 4956)), (1, (0, x1)), (12, (0, x12)), (14, (2, x14))]) dX31_best_207 rfl ev207.symm (by decide) rfl ?_
  refine x_goto (tgt := 105) dX31_best_210 (by decide) ?_
  refine x_locs [3, 4, 2, 1, 5, 0] (ls' := [(0, (2, 4956)), (1, (0, x1)), (10, (0, x12)), (11, (0, x13)), (12, (0, x12)), (13, (0, v207))]) rfl ?_
  exact hk105 _ _ _ _ _ _ hP196 h
theorem g_X31_best_j163_ok {G : aw_G} {M0 Mz : aw_M} {D' : ga_D} {Q : Option aw_V → aw_M → Prop} {r : Int} (hS : aw_St Mz) (hq : ga_P D' → Q (some (0, r)) (aw_wD Mz D')) {k105 : Int → Int → Int → Int → Int → ga_D → ga_S} (hk105 : ∀ (x1 x10 x11 x12 x13 : Int) (D : ga_D), ga_P D → k105 x1 x10 x11 x12 x13 D = some (r, D') → aw_W G "WasteHouse$PurityOdds" cX31_best (some (.int)) 15 4 false M0 Q aw_no 0 0 105 [(0, (2, 4956)), (1, (0, x1)), (10, (0, x10)), (11, (0, x11)), (12, (0, x12)), (13, (0, x13))] [] (aw_wD Mz D)) {x1 x10 x11 x12 x13 s0 : Int} {D : ga_D} (hP : ga_P D) (h : g_X31_best_j163 x1 x10 x11 x12 x13 s0 D k105 = some (r, D')) : aw_W G "WasteHouse$PurityOdds" cX31_best (some (.int)) 15 4 false M0 Q aw_no 0 0 163 [(0, (2, 4956)), (1, (0, x1)), (10, (0, x10)), (11, (0, x11)), (12, (0, x12)), (13, (0, x13))] [(2, s0)] (aw_wD Mz D) := by
  unfold g_X31_best_j163 at h
  refine x_astore (ls' := [(14, (2, s0)), (0, (2, 4956)), (1, (0, x1)), (10, (0, x10)), (11, (0, x11)), (12, (0, x12)), (13, (0, x13))]) dX31_best_163 (by decide) rfl ?_
  refine x_iload dX31_best_165 rfl ?_
  refine x_if_eq (tgt := 182) dX31_best_167 (by decide) (fun c167 => ?_) (fun c167 => ?_)
  · rw [if_pos c167] at h
    refine x_locs [1, 2, 5, 6, 0] (ls' := [(0, (2, 4956)), (1, (0, x1)), (12, (0, x12)), (13, (0, x13)), (14, (2, s0))]) rfl ?_
    refine g_X31_best_j182_ok hS hq (fun x1 x10 x11 x12 x13 D105 hP h => ?_) hP h
    · exact hk105 _ _ _ _ _ _ hP h
  · rw [if_neg c167] at h
    refine x_aload dX31_best_170 rfl ?_
    refine x_aload_n dX31_best_172 rfl ?_
    refine x_getf (v := 4967) dX31_best_173 fl_X31_49 (aw_kS hS K_4956 (by decide)) (P_4956_15 hP) ?_
    replace h := ga_bind_some h; obtain ⟨r176, D176, g176, h⟩ := h
    replace h := ga_ck_some h; obtain ⟨hk176_0, h⟩ := h
    refine x_callV (c := 0) (sl := 0) (as := [(2, 4967)]) (rest := []) dX31_best_176 (g_X32_compare_ok hS hP g176) (lw_V q5448 q5449 q5450 q431 q5451) (aw_kS hS hk176_0 (by decide)) rfl rfl (show _ ∧ _ ∧ _ ∧ _ = some 1 from by decide +kernel) (by decide) (by decide) rfl (Nat.le_of_ble_eq_true rfl) ?_ aw_nox
    rintro _ _ ⟨rfl, rfl, hP176⟩ hx176
    refine x_if_ge (tgt := 207) dX31_best_179 (by decide) (fun c179 => ?_) (fun c179 => ?_)
    · rw [if_pos c179] at h
      replace h := ga_let_some h; obtain ⟨v207, ev207, h⟩ := h
      refine x_iinc (ls' := [(13, (0, v207)), (14, (2, s0)), (0, (2, 4956)), (1, (0, x1)), (10, (0, x10)), (11, (0, x11)), (12, (0, x12))]) dX31_best_207 rfl ev207.symm (by decide) rfl ?_
      refine x_goto (tgt := 105) dX31_best_210 (by decide) ?_
      refine x_locs [2, 3, 4, 5, 6, 0] (ls' := [(0, (2, 4956)), (1, (0, x1)), (10, (0, x10)), (11, (0, x11)), (12, (0, x12)), (13, (0, v207))]) rfl ?_
      exact hk105 _ _ _ _ _ _ hP176 h
    · rw [if_neg c179] at h
      refine x_locs [1, 2, 5, 6, 0] (ls' := [(0, (2, 4956)), (1, (0, x1)), (12, (0, x12)), (13, (0, x13)), (14, (2, s0))]) rfl ?_
      refine g_X31_best_j182_ok hS hq (fun x1 x10 x11 x12 x13 D105 hP h => ?_) hP176 h
      · exact hk105 _ _ _ _ _ _ hP h
theorem g_X31_best_l105_ok {G : aw_G} {M0 Mz : aw_M} {D' : ga_D} {Q : Option aw_V → aw_M → Prop} {r : Int} (hS : aw_St Mz) (hq : ga_P D' → Q (some (0, r)) (aw_wD Mz D')) {k213 : Int → Int → Int → Int → ga_D → ga_S} (hk213 : ∀ (x1 x10 x11 x12 : Int) (D : ga_D), ga_P D → k213 x1 x10 x11 x12 D = some (r, D') → aw_W G "WasteHouse$PurityOdds" cX31_best (some (.int)) 15 4 false M0 Q aw_no 0 0 213 [(0, (2, 4956)), (1, (0, x1)), (10, (0, x10)), (11, (0, x11)), (12, (0, x12))] [] (aw_wD Mz D)) : ∀ {n : Nat} {x1 x10 x11 x12 x13 : Int} {D : ga_D}, ga_P D → g_X31_best_l105 n x1 x10 x11 x12 x13 D k213 = some (r, D') → aw_W G "WasteHouse$PurityOdds" cX31_best (some (.int)) 15 4 false M0 Q aw_no 0 0 105 [(0, (2, 4956)), (1, (0, x1)), (10, (0, x10)), (11, (0, x11)), (12, (0, x12)), (13, (0, x13))] [] (aw_wD Mz D) := by
  intro n
  induction n with
  | zero => intro x1 x10 x11 x12 x13 D hP h; exact absurd (h : (none : ga_S) = some (r, D')) (by intro h; cases h)
  | succ n ih =>
    intro x1 x10 x11 x12 x13 D hP h
    have ih : ∀ (x1 x10 x11 x12 x13 : Int) (D : ga_D), ga_P D → g_X31_best_l105 n x1 x10 x11 x12 x13 D k213 = some (r, D') → aw_W G "WasteHouse$PurityOdds" cX31_best (some (.int)) 15 4 false M0 Q aw_no 0 0 105 [(0, (2, 4956)), (1, (0, x1)), (10, (0, x10)), (11, (0, x11)), (12, (0, x12)), (13, (0, x13))] [] (aw_wD Mz D) := fun x1 x10 x11 x12 x13 D hP h => ih hP h
    replace h : (if x12 < x13 then (k213 x1 x10 x11 x12 D) else (ga_bind (g_X31_riskOf x12 x13 0 4965 D) (fun r122 D122 => ga_bind (g_X31_riskOf x12 x13 1 4966 D122) (fun r135 D135 => ga_bind (g_X32_compare 4965 4966 D135) (fun r146 D146 => if 0 ≤ r146 then (g_X31_best_j163 x1 x10 x11 x12 x13 4965 D146 (fun x1 x10 x11 x12 x13 D105 => g_X31_best_l105 n x1 x10 x11 x12 x13 D105 k213)) else (g_X31_best_j163 x1 x10 x11 x12 x13 4966 D146 (fun x1 x10 x11 x12 x13 D105 => g_X31_best_l105 n x1 x10 x11 x12 x13 D105 k213)))))) : ga_S) = some (r, D') := h
    refine x_iload dX31_best_105 rfl ?_
    refine x_iload dX31_best_107 rfl ?_
    refine x_icmp_gt (tgt := 213) dX31_best_109 (by decide) (fun c109 => ?_) (fun c109 => ?_)
    · rw [if_pos c109] at h
      refine x_locs [0, 1, 2, 3, 4] (ls' := [(0, (2, 4956)), (1, (0, x1)), (10, (0, x10)), (11, (0, x11)), (12, (0, x12))]) rfl ?_
      exact hk213 _ _ _ _ _ hP h
    · rw [if_neg c109] at h
      refine x_aload_n dX31_best_112 rfl ?_
      refine x_iload dX31_best_113 rfl ?_
      refine x_iload dX31_best_115 rfl ?_
      refine x_iconst dX31_best_117 (by decide) ?_
      refine x_aload_n dX31_best_118 rfl ?_
      refine x_getf (v := 4965) dX31_best_119 fl_X31_43 (aw_kS hS K_4956 (by decide)) (P_4956_13 hP) ?_
      replace h := ga_bind_some h; obtain ⟨r122, D122, g122, h⟩ := h
      refine x_callV (c := 0) (sl := 0) (as := [(0, x12), (0, x13), (0, 0), (2, 4965)]) (rest := []) dX31_best_122 (g_X31_riskOf_ok hS hP g122) (lw_V q6292 q6294 qs167 q430 q6295) (aw_kS hS K_4956 (by decide)) rfl rfl (show _ ∧ _ ∧ _ ∧ _ = some 4 from by decide +kernel) (by decide) (by decide) rfl (Nat.le_of_ble_eq_true rfl) ?_ aw_nox
      rintro _ _ ⟨rfl, rfl, hP122⟩ hx122
      refine x_aload_n dX31_best_125 rfl ?_
      refine x_iload dX31_best_126 rfl ?_
      refine x_iload dX31_best_128 rfl ?_
      refine x_iconst dX31_best_130 (by decide) ?_
      refine x_aload_n dX31_best_131 rfl ?_
      refine x_getf (v := 4966) dX31_best_132 fl_X31_46 (aw_kS hS K_4956 (by decide)) (P_4956_14 hP122) ?_
      replace h := ga_bind_some h; obtain ⟨r135, D135, g135, h⟩ := h
      refine x_callV (c := 0) (sl := 0) (as := [(0, x12), (0, x13), (0, 1), (2, 4966)]) (rest := []) dX31_best_135 (g_X31_riskOf_ok hS hP122 g135) (lw_V q6292 q6294 qs167 q430 q6295) (aw_kS hS K_4956 (by decide)) rfl rfl (show _ ∧ _ ∧ _ ∧ _ = some 4 from by decide +kernel) (by decide) (by decide) rfl (Nat.le_of_ble_eq_true rfl) ?_ aw_nox
      rintro _ _ ⟨rfl, rfl, hP135⟩ hx135
      refine x_aload_n dX31_best_138 rfl ?_
      refine x_getf (v := 4965) dX31_best_139 fl_X31_43 (aw_kS hS K_4956 (by decide)) (P_4956_13 hP135) ?_
      refine x_aload_n dX31_best_142 rfl ?_
      refine x_getf (v := 4966) dX31_best_143 fl_X31_46 (aw_kS hS K_4956 (by decide)) (P_4956_14 hP135) ?_
      replace h := ga_bind_some h; obtain ⟨r146, D146, g146, h⟩ := h
      refine x_callV (c := 0) (sl := 0) (as := [(2, 4966)]) (rest := []) dX31_best_146 (g_X32_compare_ok hS hP135 g146) (lw_V q5448 q5449 q5450 q431 q5451) (aw_kS hS K_4965 (by decide)) rfl rfl (show _ ∧ _ ∧ _ ∧ _ = some 1 from by decide +kernel) (by decide) (by decide) rfl (Nat.le_of_ble_eq_true rfl) ?_ aw_nox
      rintro _ _ ⟨rfl, rfl, hP146⟩ hx146
      refine x_if_ge (tgt := 159) dX31_best_149 (by decide) (fun c149 => ?_) (fun c149 => ?_)
      · rw [if_pos c149] at h
        refine x_aload_n dX31_best_159 rfl ?_
        refine x_getf (v := 4965) dX31_best_160 fl_X31_43 (aw_kS hS K_4956 (by decide)) (P_4956_13 hP146) ?_
        refine g_X31_best_j163_ok hS hq (fun x1 x10 x11 x12 x13 D105 hP h => ?_) hP146 h
        · exact ih _ _ _ _ _ _ hP h
      · rw [if_neg c149] at h
        refine x_aload_n dX31_best_152 rfl ?_
        refine x_getf (v := 4966) dX31_best_153 fl_X31_46 (aw_kS hS K_4956 (by decide)) (P_4956_14 hP146) ?_
        refine x_goto (tgt := 163) dX31_best_156 (by decide) ?_
        refine g_X31_best_j163_ok hS hq (fun x1 x10 x11 x12 x13 D105 hP h => ?_) hP146 h
        · exact ih _ _ _ _ _ _ hP h
theorem g_X31_best_l96_ok {G : aw_G} {M0 Mz : aw_M} {D' : ga_D} {Q : Option aw_V → aw_M → Prop} {r : Int} (hS : aw_St Mz) (hq : ga_P D' → Q (some (0, r)) (aw_wD Mz D')) {k219 : Int → Int → ga_D → ga_S} (hk219 : ∀ (x10 x11 : Int) (D : ga_D), ga_P D → k219 x10 x11 D = some (r, D') → aw_W G "WasteHouse$PurityOdds" cX31_best (some (.int)) 15 4 false M0 Q aw_no 0 0 219 [(0, (2, 4956)), (10, (0, x10)), (11, (0, x11))] [] (aw_wD Mz D)) : ∀ {n : Nat} {x1 x10 x11 x12 : Int} {D : ga_D}, ga_P D → g_X31_best_l96 n x1 x10 x11 x12 D k219 = some (r, D') → aw_W G "WasteHouse$PurityOdds" cX31_best (some (.int)) 15 4 false M0 Q aw_no 0 0 96 [(0, (2, 4956)), (1, (0, x1)), (10, (0, x10)), (11, (0, x11)), (12, (0, x12))] [] (aw_wD Mz D) := by
  intro n
  induction n with
  | zero => intro x1 x10 x11 x12 D hP h; exact absurd (h : (none : ga_S) = some (r, D')) (by intro h; cases h)
  | succ n ih =>
    intro x1 x10 x11 x12 D hP h
    have ih : ∀ (x1 x10 x11 x12 : Int) (D : ga_D), ga_P D → g_X31_best_l96 n x1 x10 x11 x12 D k219 = some (r, D') → aw_W G "WasteHouse$PurityOdds" cX31_best (some (.int)) 15 4 false M0 Q aw_no 0 0 96 [(0, (2, 4956)), (1, (0, x1)), (10, (0, x10)), (11, (0, x11)), (12, (0, x12))] [] (aw_wD Mz D) := fun x1 x10 x11 x12 D hP h => ih hP h
    replace h : (if x1 < x12 then (k219 x10 x11 D) else (g_X31_best_l105 aw_fu x1 x10 x11 x12 0 D (fun x1 x10 x11 x12 D213 => ga_let (aw_w32 (x12 + 1)) (fun v213 => g_X31_best_l96 n x1 x10 x11 v213 D213 k219))) : ga_S) = some (r, D') := h
    refine x_iload dX31_best_96 rfl ?_
    refine x_iload_n dX31_best_98 rfl ?_
    refine x_icmp_gt (tgt := 219) dX31_best_99 (by decide) (fun c99 => ?_) (fun c99 => ?_)
    · rw [if_pos c99] at h
      refine x_locs [0, 2, 3] (ls' := [(0, (2, 4956)), (10, (0, x10)), (11, (0, x11))]) rfl ?_
      exact hk219 _ _ _ hP h
    · rw [if_neg c99] at h
      refine x_iconst dX31_best_102 (by decide) ?_
      refine x_istore (ls' := [(13, (0, 0)), (0, (2, 4956)), (1, (0, x1)), (10, (0, x10)), (11, (0, x11)), (12, (0, x12))]) dX31_best_103 (by decide) rfl ?_
      refine x_locs [1, 2, 3, 4, 5, 0] (ls' := [(0, (2, 4956)), (1, (0, x1)), (10, (0, x10)), (11, (0, x11)), (12, (0, x12)), (13, (0, 0))]) rfl ?_
      refine g_X31_best_l105_ok hS hq (fun x1 x10 x11 x12 D213 hP h => ?_) hP h
      · replace h := ga_let_some h; obtain ⟨v213, ev213, h⟩ := h
        refine x_iinc (ls' := [(12, (0, v213)), (0, (2, 4956)), (1, (0, x1)), (10, (0, x10)), (11, (0, x11))]) dX31_best_213 rfl ev213.symm (by decide) rfl ?_
        refine x_goto (tgt := 96) dX31_best_216 (by decide) ?_
        refine x_locs [1, 2, 3, 4, 0] (ls' := [(0, (2, 4956)), (1, (0, x1)), (10, (0, x10)), (11, (0, x11)), (12, (0, v213))]) rfl ?_
        exact ih _ _ _ _ _ hP h
theorem g_X31_best_ok {G : aw_G} {Mz : aw_M} {D D' : ga_D} {r : Int} {x1 x2 x4 x6 x8 : Int} (hS : aw_St Mz) (hP : ga_P D) (h : g_X31_best x1 x2 x4 x6 x8 D = some (r, D')) : aw_Runs yX31_best cX31_best 15 (some (.int)) 4 0 0 G [(2, 4956), (0, x1), (1, x2), (1, x4), (1, x6), (1, x8)] (aw_wD Mz D) (aw_isP (some (0, r)) (aw_wD Mz D')) aw_no := by
  unfold g_X31_best at h
  refine aw_body (own := "WasteHouse$PurityOdds") (ini := false) (ls := [(0, (2, 4956)), (1, (0, x1)), (2, (1, x2)), (4, (1, x4)), (6, (1, x6)), (8, (1, x8))]) rfl rfl (fun h => by cases h) (Nat.le_of_ble_eq_true rfl) rfl ?_
  generalize hQ : aw_isP (some (0, r)) (aw_wD Mz D') = Q
  have hq : ga_P D' → Q (some (0, r)) (aw_wD Mz D') := by rw [← hQ]; exact fun hP => ⟨rfl, rfl, hP⟩
  clear hQ
  refine x_aload_n dX31_best_0 rfl ?_
  refine x_getf (v := D 4956 3) dX31_best_1 fl_X31_61 (aw_kS hS K_4956 (by decide)) rfl ?_
  refine x_bipush dX31_best_4 (by decide) ?_
  refine x_icmp_eq (tgt := 59) dX31_best_6 (by decide) (fun c6 => ?_) (fun c6 => ?_)
  · rw [if_pos c6] at h
    refine x_iconst dX31_best_59 (by decide) ?_
    obtain ⟨rfl, rfl⟩ := ga_end h
    exact x_iret dX31_best_60 rfl rfl trivial (hq hP)
  · rw [if_neg c6] at h
    refine x_iload_n dX31_best_9 rfl ?_
    refine x_i2l dX31_best_10 rfl ?_
    refine x_lconst (v := 1) dX31_best_11 rfl ?_
    refine x_ldc2 (z := 7) dX31_best_12 q6271 (by decide) ?_
    replace h := ga_bind_some h; obtain ⟨r15, D15, g15, h⟩ := h
    refine x_callS (c := 0) (sl := 0) (as := [(1, x1), (1, 1), (1, 7)]) (rest := []) dX31_best_15 (g_X31_isIn_ok hS hP g15) (lw_S q5403 q5404 q430 q5405) (show _ ∧ _ ∧ _ = some 3 from by decide +kernel) (by decide) (by decide) rfl (Nat.le_of_ble_eq_true rfl) ?_ aw_nox
    rintro _ _ ⟨rfl, rfl, hP15⟩ hx15
    refine x_if_eq (tgt := 59) dX31_best_18 (by decide) (fun c18 => ?_) (fun c18 => ?_)
    · rw [if_pos c18] at h
      refine x_iconst dX31_best_59 (by decide) ?_
      obtain ⟨rfl, rfl⟩ := ga_end h
      exact x_iret dX31_best_60 rfl rfl trivial (hq hP15)
    · rw [if_neg c18] at h
      refine x_lload_n dX31_best_21 rfl ?_
      refine x_lload dX31_best_22 rfl ?_
      refine x_ldc2 (z := 20) dX31_best_24 q6280 (by decide) ?_
      replace h := ga_bind_some h; obtain ⟨r27, D27, g27, h⟩ := h
      refine x_callS (c := 0) (sl := 0) (as := [(1, x2), (1, x4), (1, 20)]) (rest := []) dX31_best_27 (g_X31_isShare_ok hS hP15 g27) (lw_S q6281 q6282 q430 q6283) (show _ ∧ _ ∧ _ = some 3 from by decide +kernel) (by decide) (by decide) rfl (Nat.le_of_ble_eq_true rfl) ?_ aw_nox
      rintro _ _ ⟨rfl, rfl, hP27⟩ hx27
      refine x_if_eq (tgt := 59) dX31_best_30 (by decide) (fun c30 => ?_) (fun c30 => ?_)
      · rw [if_pos c30] at h
        refine x_iconst dX31_best_59 (by decide) ?_
        obtain ⟨rfl, rfl⟩ := ga_end h
        exact x_iret dX31_best_60 rfl rfl trivial (hq hP27)
      · rw [if_neg c30] at h
        refine x_lload dX31_best_33 rfl ?_
        refine x_lload dX31_best_35 rfl ?_
        refine x_ldc2 (z := 20) dX31_best_37 q6280 (by decide) ?_
        replace h := ga_bind_some h; obtain ⟨r40, D40, g40, h⟩ := h
        refine x_callS (c := 0) (sl := 0) (as := [(1, x6), (1, x8), (1, 20)]) (rest := []) dX31_best_40 (g_X31_isShare_ok hS hP27 g40) (lw_S q6281 q6282 q430 q6283) (show _ ∧ _ ∧ _ = some 3 from by decide +kernel) (by decide) (by decide) rfl (Nat.le_of_ble_eq_true rfl) ?_ aw_nox
        rintro _ _ ⟨rfl, rfl, hP40⟩ hx40
        refine x_if_eq (tgt := 59) dX31_best_43 (by decide) (fun c43 => ?_) (fun c43 => ?_)
        · rw [if_pos c43] at h
          refine x_iconst dX31_best_59 (by decide) ?_
          obtain ⟨rfl, rfl⟩ := ga_end h
          exact x_iret dX31_best_60 rfl rfl trivial (hq hP40)
        · rw [if_neg c43] at h
          refine x_lload_n dX31_best_46 rfl ?_
          refine x_lload dX31_best_47 rfl ?_
          refine x_lmul dX31_best_49 rfl ?_
          refine x_lload dX31_best_50 rfl ?_
          refine x_lload dX31_best_52 rfl ?_
          refine x_lmul dX31_best_54 rfl ?_
          refine x_lcmp dX31_best_55 rfl ?_
          refine x_if_lt (tgt := 61) dX31_best_56 (by decide) (fun c56 => ?_) (fun c56 => ?_)
          · rw [if_pos (cmi_lt.mp c56)] at h
            refine x_aload_n dX31_best_61 rfl ?_
            refine x_getf (v := 4962) dX31_best_62 fl_X31_32 (aw_kS hS K_4956 (by decide)) (P_4956_9 hP40) ?_
            refine x_lload_n dX31_best_65 rfl ?_
            refine x_lload dX31_best_66 rfl ?_
            replace h := ga_bind_some h; obtain ⟨r68, D68, g68, h⟩ := h
            refine x_callV (c := 0) (sl := 0) (as := [(1, x2), (1, x4)]) (rest := []) dX31_best_68 (g_X32_set_ok hS hP40 g68) (lw_V q5440 q5441 q5442 q431 q5443) (aw_kS hS K_4962 (by decide)) rfl rfl (show _ ∧ _ ∧ _ ∧ _ = some 2 from by decide +kernel) (by decide) (by decide) rfl (Nat.le_of_ble_eq_true rfl) ?_ aw_nox
            rintro _ _ ⟨rfl, rfl, hP68⟩ hx68
            refine x_aload_n dX31_best_71 rfl ?_
            refine x_getf (v := 4963) dX31_best_72 fl_X31_36 (aw_kS hS K_4956 (by decide)) (P_4956_10 hP68) ?_
            refine x_lload dX31_best_75 rfl ?_
            refine x_lload dX31_best_77 rfl ?_
            replace h := ga_bind_some h; obtain ⟨r79, D79, g79, h⟩ := h
            refine x_callV (c := 0) (sl := 0) (as := [(1, x6), (1, x8)]) (rest := []) dX31_best_79 (g_X32_set_ok hS hP68 g79) (lw_V q5440 q5441 q5442 q431 q5443) (aw_kS hS K_4963 (by decide)) rfl rfl (show _ ∧ _ ∧ _ ∧ _ = some 2 from by decide +kernel) (by decide) (by decide) rfl (Nat.le_of_ble_eq_true rfl) ?_ aw_nox
            rintro _ _ ⟨rfl, rfl, hP79⟩ hx79
            refine x_aload_n dX31_best_82 rfl ?_
            refine x_iconst dX31_best_83 (by decide) ?_
            replace h := ga_let_some h; obtain ⟨D84, eD84, h⟩ := h
            refine x_putf dX31_best_84 fl_X31_96 rfl (aw_kS hS K_4956 (by decide)) (by decide) (show (0 : Int) ≤ 1 ∧ (1 : Int) < 2 from by decide) ?_
            refine x_nmD eD84 ?_
            have hP84 : ga_P D84 := ga_Pset eD84 hP79 (ga_Pn K_4956 rfl)
            refine x_iconst dX31_best_87 (by decide) ?_
            refine x_istore (ls' := [(10, (0, 0)), (0, (2, 4956)), (1, (0, x1)), (2, (1, x2)), (4, (1, x4)), (6, (1, x6)), (8, (1, x8))]) dX31_best_88 (by decide) rfl ?_
            refine x_iconst dX31_best_90 (by decide) ?_
            refine x_istore (ls' := [(11, (0, 0)), (10, (0, 0)), (0, (2, 4956)), (1, (0, x1)), (2, (1, x2)), (4, (1, x4)), (6, (1, x6)), (8, (1, x8))]) dX31_best_91 (by decide) rfl ?_
            refine x_iconst dX31_best_93 (by decide) ?_
            refine x_istore (ls' := [(12, (0, 1)), (11, (0, 0)), (10, (0, 0)), (0, (2, 4956)), (1, (0, x1)), (2, (1, x2)), (4, (1, x4)), (6, (1, x6)), (8, (1, x8))]) dX31_best_94 (by decide) rfl ?_
            refine x_locs [3, 4, 2, 1, 0] (ls' := [(0, (2, 4956)), (1, (0, x1)), (10, (0, 0)), (11, (0, 0)), (12, (0, 1))]) rfl ?_
            refine g_X31_best_l96_ok hS hq (fun x10 x11 D219 hP h => ?_) hP84 h
            · refine x_aload_n dX31_best_219 rfl ?_
              refine x_iload dX31_best_220 rfl ?_
              refine x_iload dX31_best_222 rfl ?_
              replace h := ga_bind_some h; obtain ⟨r224, D224, g224, h⟩ := h
              refine x_callV (c := 0) (sl := 0) (as := [(0, x10), (0, x11)]) (rest := []) dX31_best_224 (g_X31_plan_ok hS hP g224) (lw_V q6296 q6268 q6269 q430 q6270) (aw_kS hS K_4956 (by decide)) rfl rfl (show _ ∧ _ ∧ _ ∧ _ = some 2 from by decide +kernel) (by decide) (by decide) rfl (Nat.le_of_ble_eq_true rfl) ?_ aw_nox
              rintro _ _ ⟨rfl, rfl, hP224⟩ hx224
              obtain ⟨rfl, rfl⟩ := ga_end h
              exact x_iret dX31_best_227 rfl rfl trivial (hq hP224)
          · rw [if_neg (fun q => c56 (cmi_lt.mpr q))] at h
            refine x_iconst dX31_best_59 (by decide) ?_
            obtain ⟨rfl, rfl⟩ := ga_end h
            exact x_iret dX31_best_60 rfl rfl trivial (hq hP40)
theorem g_X31_risk_ok {G : aw_G} {Mz : aw_M} {D D' : ga_D} {r : Int} {x1 x2 x3 : Int} (hS : aw_St Mz) (hP : ga_P D) (h : g_X31_risk x1 x2 x3 D = some (r, D')) : aw_Runs yX31_risk cX31_risk 4 (some (.long)) 4 0 0 G [(2, 4956), (0, x1), (0, x2), (0, x3)] (aw_wD Mz D) (aw_isP (some (1, r)) (aw_wD Mz D')) aw_no := by
  unfold g_X31_risk at h
  refine aw_body (own := "WasteHouse$PurityOdds") (ini := false) (ls := [(0, (2, 4956)), (1, (0, x1)), (2, (0, x2)), (3, (0, x3))]) rfl rfl (fun h => by cases h) (Nat.le_of_ble_eq_true rfl) rfl ?_
  generalize hQ : aw_isP (some (1, r)) (aw_wD Mz D') = Q
  have hq : ga_P D' → Q (some (1, r)) (aw_wD Mz D') := by rw [← hQ]; exact fun hP => ⟨rfl, rfl, hP⟩
  clear hQ
  refine x_aload_n dX31_risk_0 rfl ?_
  refine x_iload_n dX31_risk_1 rfl ?_
  replace h := ga_bind_some h; obtain ⟨r2, D2, g2, h⟩ := h
  refine x_callV (c := 0) (sl := 0) (as := [(0, x1)]) (rest := []) dX31_risk_2 (g_X31_isPlan_ok hS hP g2) (lw_V q6276 q6278 qs165 q430 q6279) (aw_kS hS K_4956 (by decide)) rfl rfl (show _ ∧ _ ∧ _ ∧ _ = some 1 from by decide +kernel) (by decide) (by decide) rfl (Nat.le_of_ble_eq_true rfl) ?_ aw_nox
  rintro _ _ ⟨rfl, rfl, hP2⟩ hx2
  refine x_if_eq (tgt := 25) dX31_risk_5 (by decide) (fun c5 => ?_) (fun c5 => ?_)
  · rw [if_pos c5] at h
    refine x_ldc2 (z := (-1)) dX31_risk_25 q5435 (by decide) ?_
    obtain ⟨rfl, rfl⟩ := ga_end h
    exact x_lret dX31_risk_28 rfl (hq hP2)
  · rw [if_neg c5] at h
    refine x_aload_n dX31_risk_8 rfl ?_
    refine x_getf (v := D2 4956 11) dX31_risk_9 fl_X31_96 (aw_kS hS K_4956 (by decide)) rfl ?_
    refine x_if_eq (tgt := 25) dX31_risk_12 (by decide) (fun c12 => ?_) (fun c12 => ?_)
    · rw [if_pos c12] at h
      refine x_ldc2 (z := (-1)) dX31_risk_25 q5435 (by decide) ?_
      obtain ⟨rfl, rfl⟩ := ga_end h
      exact x_lret dX31_risk_28 rfl (hq hP2)
    · rw [if_neg c12] at h
      refine x_iload_n dX31_risk_15 rfl ?_
      refine x_i2l dX31_risk_16 rfl ?_
      refine x_lconst (v := 0) dX31_risk_17 rfl ?_
      refine x_lconst (v := 1) dX31_risk_18 rfl ?_
      replace h := ga_bind_some h; obtain ⟨r19, D19, g19, h⟩ := h
      refine x_callS (c := 0) (sl := 0) (as := [(1, x2), (1, 0), (1, 1)]) (rest := []) dX31_risk_19 (g_X31_isIn_ok hS hP2 g19) (lw_S q5403 q5404 q430 q5405) (show _ ∧ _ ∧ _ = some 3 from by decide +kernel) (by decide) (by decide) rfl (Nat.le_of_ble_eq_true rfl) ?_ aw_nox
      rintro _ _ ⟨rfl, rfl, hP19⟩ hx19
      refine x_if_ne (tgt := 29) dX31_risk_22 (by decide) (fun c22 => ?_) (fun c22 => ?_)
      · rw [if_pos c22] at h
        refine x_aload_n dX31_risk_29 rfl ?_
        refine x_aload_n dX31_risk_30 rfl ?_
        refine x_getf (v := 4957) dX31_risk_31 fl_X31_7 (aw_kS hS K_4956 (by decide)) (P_4956_1 hP19) ?_
        refine x_iload_n dX31_risk_34 rfl ?_
        replace h := ga_ck_some h; obtain ⟨ha35, h⟩ := h
        refine x_iald (v := D19 4957 x1) dX31_risk_35 (aw_kS hS K_4957 (by decide)) ha35.1 ha35.2 rfl ?_
        refine x_aload_n dX31_risk_36 rfl ?_
        refine x_getf (v := 4958) dX31_risk_37 fl_X31_13 (aw_kS hS K_4956 (by decide)) (P_4956_2 hP19) ?_
        refine x_iload_n dX31_risk_40 rfl ?_
        replace h := ga_ck_some h; obtain ⟨ha41, h⟩ := h
        refine x_iald (v := D19 4958 x1) dX31_risk_41 (aw_kS hS K_4958 (by decide)) ha41.1 ha41.2 rfl ?_
        refine x_iload_n dX31_risk_42 rfl ?_
        refine x_aload_n dX31_risk_43 rfl ?_
        refine x_getf (v := 4965) dX31_risk_44 fl_X31_43 (aw_kS hS K_4956 (by decide)) (P_4956_13 hP19) ?_
        replace h := ga_bind_some h; obtain ⟨r47, D47, g47, h⟩ := h
        refine x_callV (c := 0) (sl := 0) (as := [(0, D19 4957 x1), (0, D19 4958 x1), (0, x2), (2, 4965)]) (rest := []) dX31_risk_47 (g_X31_riskOf_ok hS hP19 g47) (lw_V q6292 q6294 qs167 q430 q6295) (aw_kS hS K_4956 (by decide)) rfl rfl (show _ ∧ _ ∧ _ ∧ _ = some 4 from by decide +kernel) (by decide) (by decide) rfl (Nat.le_of_ble_eq_true rfl) ?_ aw_nox
        rintro _ _ ⟨rfl, rfl, hP47⟩ hx47
        refine x_aload_n dX31_risk_50 rfl ?_
        refine x_getf (v := 4965) dX31_risk_51 fl_X31_43 (aw_kS hS K_4956 (by decide)) (P_4956_13 hP47) ?_
        refine x_iload_n dX31_risk_54 rfl ?_
        replace h := ga_bind_some h; obtain ⟨r55, D55, g55, h⟩ := h
        refine x_callV (c := 0) (sl := 0) (as := [(0, x3)]) (rest := []) dX31_risk_55 (g_X32_part_ok hS hP47 g55) (lw_V q5485 q5486 q5487 q431 q5488) (aw_kS hS K_4965 (by decide)) rfl rfl (show _ ∧ _ ∧ _ ∧ _ = some 1 from by decide +kernel) (by decide) (by decide) rfl (Nat.le_of_ble_eq_true rfl) ?_ aw_nox
        rintro _ _ ⟨rfl, rfl, hP55⟩ hx55
        obtain ⟨rfl, rfl⟩ := ga_end h
        exact x_lret dX31_risk_58 rfl (hq hP55)
      · rw [if_neg c22] at h
        refine x_ldc2 (z := (-1)) dX31_risk_25 q5435 (by decide) ?_
        obtain ⟨rfl, rfl⟩ := ga_end h
        exact x_lret dX31_risk_28 rfl (hq hP19)
theorem g_X31_repeats_l34_ok {G : aw_G} {M0 Mz : aw_M} {D' : ga_D} {Q : Option aw_V → aw_M → Prop} {r : Int} (hS : aw_St Mz) (hq : ga_P D' → Q (some (0, r)) (aw_wD Mz D')) {k74 : Int → Int → Int → Int → ga_D → ga_S} (hk74 : ∀ (x2 x3 x4 x5 : Int) (D : ga_D), ga_P D → k74 x2 x3 x4 x5 D = some (r, D') → aw_W G "WasteHouse$PurityOdds" cX31_repeats (some (.int)) 6 2 false M0 Q aw_no 0 0 74 [(2, (2, x2)), (3, (0, x3)), (4, (0, x4)), (5, (0, x5))] [] (aw_wD Mz D)) : ∀ {n : Nat} {x2 x3 x4 x5 : Int} {D : ga_D}, ga_P D → g_X31_repeats_l34 n x2 x3 x4 x5 D k74 = some (r, D') → aw_W G "WasteHouse$PurityOdds" cX31_repeats (some (.int)) 6 2 false M0 Q aw_no 0 0 34 [(2, (2, x2)), (3, (0, x3)), (4, (0, x4)), (5, (0, x5))] [] (aw_wD Mz D) := by
  intro n
  induction n with
  | zero => intro x2 x3 x4 x5 D hP h; exact absurd (h : (none : ga_S) = some (r, D')) (by intro h; cases h)
  | succ n ih =>
    intro x2 x3 x4 x5 D hP h
    have ih : ∀ (x2 x3 x4 x5 : Int) (D : ga_D), ga_P D → g_X31_repeats_l34 n x2 x3 x4 x5 D k74 = some (r, D') → aw_W G "WasteHouse$PurityOdds" cX31_repeats (some (.int)) 6 2 false M0 Q aw_no 0 0 34 [(2, (2, x2)), (3, (0, x3)), (4, (0, x4)), (5, (0, x5))] [] (aw_wD Mz D) := fun x2 x3 x4 x5 D hP h => ih hP h
    replace h : (ga_ck (ga_K x2 = (30, 0)) (ga_ck (0 ≤ x5 ∧ x5 < 30) (ga_ck (0 ≤ x4 ∧ x4 < 30) (if D ((x2 + 1)) x5 ≠ D ((x2 + 1)) x4 then (ga_let (aw_w32 (x5 + 1)) (fun v68 => g_X31_repeats_l34 n x2 x3 x4 v68 D k74)) else (ga_ck (0 ≤ x5 ∧ x5 < 30) (ga_ck (0 ≤ x4 ∧ x4 < 30) (if D ((x2 + 2)) x5 = D ((x2 + 2)) x4 then (k74 x2 x3 x4 x5 D) else (ga_let (aw_w32 (x5 + 1)) (fun v68 => g_X31_repeats_l34 n x2 x3 x4 v68 D k74)))))))) : ga_S) = some (r, D') := h
    refine x_aload_n dX31_repeats_34 rfl ?_
    replace h := ga_ck_some h; obtain ⟨hk35_0, h⟩ := h
    refine x_getf (v := (x2 + 1)) dX31_repeats_35 fl_X31_136 (aw_kS hS hk35_0 (by decide)) (O_30_1 hP hk35_0) ?_
    refine x_iload dX31_repeats_38 rfl ?_
    replace h := ga_ck_some h; obtain ⟨ha40, h⟩ := h
    refine x_iald (v := D ((x2 + 1)) x5) dX31_repeats_40 (aw_kS hS (KO_30_1 hk35_0) (by decide)) ha40.1 ha40.2 rfl ?_
    refine x_aload_n dX31_repeats_41 rfl ?_
    refine x_getf (v := (x2 + 1)) dX31_repeats_42 fl_X31_136 (aw_kS hS hk35_0 (by decide)) (O_30_1 hP hk35_0) ?_
    refine x_iload dX31_repeats_45 rfl ?_
    replace h := ga_ck_some h; obtain ⟨ha47, h⟩ := h
    refine x_iald (v := D ((x2 + 1)) x4) dX31_repeats_47 (aw_kS hS (KO_30_1 hk35_0) (by decide)) ha47.1 ha47.2 rfl ?_
    refine x_icmp_ne (tgt := 68) dX31_repeats_48 (by decide) (fun c48 => ?_) (fun c48 => ?_)
    · rw [if_pos c48] at h
      replace h := ga_let_some h; obtain ⟨v68, ev68, h⟩ := h
      refine x_iinc (ls' := [(5, (0, v68)), (2, (2, x2)), (3, (0, x3)), (4, (0, x4))]) dX31_repeats_68 rfl ev68.symm (by decide) rfl ?_
      refine x_goto (tgt := 34) dX31_repeats_71 (by decide) ?_
      refine x_locs [1, 2, 3, 0] (ls' := [(2, (2, x2)), (3, (0, x3)), (4, (0, x4)), (5, (0, v68))]) rfl ?_
      exact ih _ _ _ _ _ hP h
    · rw [if_neg c48] at h
      refine x_aload_n dX31_repeats_51 rfl ?_
      refine x_getf (v := (x2 + 2)) dX31_repeats_52 fl_X31_139 (aw_kS hS hk35_0 (by decide)) (O_30_2 hP hk35_0) ?_
      refine x_iload dX31_repeats_55 rfl ?_
      replace h := ga_ck_some h; obtain ⟨ha57, h⟩ := h
      refine x_iald (v := D ((x2 + 2)) x5) dX31_repeats_57 (aw_kS hS (KO_30_2 hk35_0) (by decide)) ha57.1 ha57.2 rfl ?_
      refine x_aload_n dX31_repeats_58 rfl ?_
      refine x_getf (v := (x2 + 2)) dX31_repeats_59 fl_X31_139 (aw_kS hS hk35_0 (by decide)) (O_30_2 hP hk35_0) ?_
      refine x_iload dX31_repeats_62 rfl ?_
      replace h := ga_ck_some h; obtain ⟨ha64, h⟩ := h
      refine x_iald (v := D ((x2 + 2)) x4) dX31_repeats_64 (aw_kS hS (KO_30_2 hk35_0) (by decide)) ha64.1 ha64.2 rfl ?_
      refine x_icmp_eq (tgt := 74) dX31_repeats_65 (by decide) (fun c65 => ?_) (fun c65 => ?_)
      · rw [if_pos c65] at h
        exact hk74 _ _ _ _ _ hP h
      · rw [if_neg c65] at h
        replace h := ga_let_some h; obtain ⟨v68, ev68, h⟩ := h
        refine x_iinc (ls' := [(5, (0, v68)), (2, (2, x2)), (3, (0, x3)), (4, (0, x4))]) dX31_repeats_68 rfl ev68.symm (by decide) rfl ?_
        refine x_goto (tgt := 34) dX31_repeats_71 (by decide) ?_
        refine x_locs [1, 2, 3, 0] (ls' := [(2, (2, x2)), (3, (0, x3)), (4, (0, x4)), (5, (0, v68))]) rfl ?_
        exact ih _ _ _ _ _ hP h
theorem g_X31_repeats_l22_ok {G : aw_G} {M0 Mz : aw_M} {D' : ga_D} {Q : Option aw_V → aw_M → Prop} {r : Int} (hS : aw_St Mz) (hq : ga_P D' → Q (some (0, r)) (aw_wD Mz D')) {k95 : Int → ga_D → ga_S} (hk95 : ∀ (x3 : Int) (D : ga_D), ga_P D → k95 x3 D = some (r, D') → aw_W G "WasteHouse$PurityOdds" cX31_repeats (some (.int)) 6 2 false M0 Q aw_no 0 0 95 [(3, (0, x3))] [] (aw_wD Mz D)) : ∀ {n : Nat} {x2 x3 x4 : Int} {D : ga_D}, ga_P D → g_X31_repeats_l22 n x2 x3 x4 D k95 = some (r, D') → aw_W G "WasteHouse$PurityOdds" cX31_repeats (some (.int)) 6 2 false M0 Q aw_no 0 0 22 [(2, (2, x2)), (3, (0, x3)), (4, (0, x4))] [] (aw_wD Mz D) := by
  intro n
  induction n with
  | zero => intro x2 x3 x4 D hP h; exact absurd (h : (none : ga_S) = some (r, D')) (by intro h; cases h)
  | succ n ih =>
    intro x2 x3 x4 D hP h
    have ih : ∀ (x2 x3 x4 : Int) (D : ga_D), ga_P D → g_X31_repeats_l22 n x2 x3 x4 D k95 = some (r, D') → aw_W G "WasteHouse$PurityOdds" cX31_repeats (some (.int)) 6 2 false M0 Q aw_no 0 0 22 [(2, (2, x2)), (3, (0, x3)), (4, (0, x4))] [] (aw_wD Mz D) := fun x2 x3 x4 D hP h => ih hP h
    replace h : (ga_ck (ga_K x2 = (30, 0)) (if D x2 3 ≤ x4 then (k95 x3 D) else (g_X31_repeats_l34 aw_fu x2 x3 x4 0 D (fun x2 x3 x4 x5 D74 => if x4 ≤ x5 then (ga_let (aw_w32 (x3 + 0)) (fun v88 => ga_let (aw_w32 (x4 + 1)) (fun v89 => g_X31_repeats_l22 n x2 v88 v89 D74 k95))) else (ga_let (aw_w32 (x3 + 1)) (fun v88 => ga_let (aw_w32 (x4 + 1)) (fun v89 => g_X31_repeats_l22 n x2 v88 v89 D74 k95)))))) : ga_S) = some (r, D') := h
    refine x_iload dX31_repeats_22 rfl ?_
    refine x_aload_n dX31_repeats_24 rfl ?_
    replace h := ga_ck_some h; obtain ⟨hk25_0, h⟩ := h
    refine x_getf (v := D x2 3) dX31_repeats_25 fl_X31_133 (aw_kS hS hk25_0 (by decide)) rfl ?_
    refine x_icmp_ge (tgt := 95) dX31_repeats_28 (by decide) (fun c28 => ?_) (fun c28 => ?_)
    · rw [if_pos c28] at h
      refine x_locs [1] (ls' := [(3, (0, x3))]) rfl ?_
      exact hk95 _ _ hP h
    · rw [if_neg c28] at h
      refine x_iconst dX31_repeats_31 (by decide) ?_
      refine x_istore (ls' := [(5, (0, 0)), (2, (2, x2)), (3, (0, x3)), (4, (0, x4))]) dX31_repeats_32 (by decide) rfl ?_
      refine x_locs [1, 2, 3, 0] (ls' := [(2, (2, x2)), (3, (0, x3)), (4, (0, x4)), (5, (0, 0))]) rfl ?_
      refine g_X31_repeats_l34_ok hS hq (fun x2 x3 x4 x5 D74 hP h => ?_) hP h
      · refine x_iload_n dX31_repeats_74 rfl ?_
        refine x_iload dX31_repeats_75 rfl ?_
        refine x_iload dX31_repeats_77 rfl ?_
        refine x_icmp_ge (tgt := 86) dX31_repeats_79 (by decide) (fun c79 => ?_) (fun c79 => ?_)
        · rw [if_pos c79] at h
          refine x_iconst dX31_repeats_86 (by decide) ?_
          refine x_iadd dX31_repeats_87 rfl ?_
          replace h := ga_let_some h; obtain ⟨v88, ev88, h⟩ := h
          refine x_nm ev88 ?_
          refine x_istore_n (ls' := [(3, (0, v88)), (2, (2, x2)), (4, (0, x4)), (5, (0, x5))]) dX31_repeats_88 (by decide) rfl ?_
          replace h := ga_let_some h; obtain ⟨v89, ev89, h⟩ := h
          refine x_iinc (ls' := [(4, (0, v89)), (3, (0, v88)), (2, (2, x2)), (5, (0, x5))]) dX31_repeats_89 rfl ev89.symm (by decide) rfl ?_
          refine x_goto (tgt := 22) dX31_repeats_92 (by decide) ?_
          refine x_locs [2, 1, 0] (ls' := [(2, (2, x2)), (3, (0, v88)), (4, (0, v89))]) rfl ?_
          exact ih _ _ _ _ hP h
        · rw [if_neg c79] at h
          refine x_iconst dX31_repeats_82 (by decide) ?_
          refine x_goto (tgt := 87) dX31_repeats_83 (by decide) ?_
          refine x_iadd dX31_repeats_87 rfl ?_
          replace h := ga_let_some h; obtain ⟨v88, ev88, h⟩ := h
          refine x_nm ev88 ?_
          refine x_istore_n (ls' := [(3, (0, v88)), (2, (2, x2)), (4, (0, x4)), (5, (0, x5))]) dX31_repeats_88 (by decide) rfl ?_
          replace h := ga_let_some h; obtain ⟨v89, ev89, h⟩ := h
          refine x_iinc (ls' := [(4, (0, v89)), (3, (0, v88)), (2, (2, x2)), (5, (0, x5))]) dX31_repeats_89 rfl ev89.symm (by decide) rfl ?_
          refine x_goto (tgt := 22) dX31_repeats_92 (by decide) ?_
          refine x_locs [2, 1, 0] (ls' := [(2, (2, x2)), (3, (0, v88)), (4, (0, v89))]) rfl ?_
          exact ih _ _ _ _ hP h
theorem g_X31_repeats_ok {G : aw_G} {Mz : aw_M} {D D' : ga_D} {r : Int} {x1 : Int} (hS : aw_St Mz) (hP : ga_P D) (h : g_X31_repeats x1 D = some (r, D')) : aw_Runs yX31_repeats cX31_repeats 6 (some (.int)) 2 0 0 G [(2, 4956), (0, x1)] (aw_wD Mz D) (aw_isP (some (0, r)) (aw_wD Mz D')) aw_no := by
  unfold g_X31_repeats at h
  refine aw_body (own := "WasteHouse$PurityOdds") (ini := false) (ls := [(0, (2, 4956)), (1, (0, x1))]) rfl rfl (fun h => by cases h) (Nat.le_of_ble_eq_true rfl) rfl ?_
  generalize hQ : aw_isP (some (0, r)) (aw_wD Mz D') = Q
  have hq : ga_P D' → Q (some (0, r)) (aw_wD Mz D') := by rw [← hQ]; exact fun hP => ⟨rfl, rfl, hP⟩
  clear hQ
  refine x_aload_n dX31_repeats_0 rfl ?_
  refine x_iload_n dX31_repeats_1 rfl ?_
  replace h := ga_bind_some h; obtain ⟨r2, D2, g2, h⟩ := h
  refine x_callV (c := 0) (sl := 0) (as := [(0, x1)]) (rest := []) dX31_repeats_2 (g_X31_isLot_ok hS hP g2) (lw_V q5417 q5419 qs97 q430 q5420) (aw_kS hS K_4956 (by decide)) rfl rfl (show _ ∧ _ ∧ _ ∧ _ = some 1 from by decide +kernel) (by decide) (by decide) rfl (Nat.le_of_ble_eq_true rfl) ?_ aw_nox
  rintro _ _ ⟨rfl, rfl, hP2⟩ hx2
  refine x_if_ne (tgt := 10) dX31_repeats_5 (by decide) (fun c5 => ?_) (fun c5 => ?_)
  · rw [if_pos c5] at h
    refine x_aload_n dX31_repeats_10 rfl ?_
    refine x_getf (v := 4959) dX31_repeats_11 fl_X31_18 (aw_kS hS K_4956 (by decide)) (P_4956_4 hP2) ?_
    refine x_iload_n dX31_repeats_14 rfl ?_
    replace h := ga_ck_some h; obtain ⟨ha15, h⟩ := h
    refine x_aald (t := 14) (v := (8 * x1 + 4968)) dX31_repeats_15 (aw_kS hS K_4959 (by decide)) rfl rfl ha15.1 ha15.2 (E_4959 hP2 ha15.1 ha15.2) ?_
    refine x_astore_n (ls' := [(2, (2, (8 * x1 + 4968))), (0, (2, 4956)), (1, (0, x1))]) dX31_repeats_16 (by decide) rfl ?_
    refine x_iconst dX31_repeats_17 (by decide) ?_
    refine x_istore_n (ls' := [(3, (0, 0)), (2, (2, (8 * x1 + 4968))), (0, (2, 4956)), (1, (0, x1))]) dX31_repeats_18 (by decide) rfl ?_
    refine x_iconst dX31_repeats_19 (by decide) ?_
    refine x_istore (ls' := [(4, (0, 1)), (3, (0, 0)), (2, (2, (8 * x1 + 4968))), (0, (2, 4956)), (1, (0, x1))]) dX31_repeats_20 (by decide) rfl ?_
    refine x_locs [2, 1, 0] (ls' := [(2, (2, (8 * x1 + 4968))), (3, (0, 0)), (4, (0, 1))]) rfl ?_
    refine g_X31_repeats_l22_ok hS hq (fun x3 D95 hP h => ?_) hP2 h
    · refine x_iload_n dX31_repeats_95 rfl ?_
      obtain ⟨rfl, rfl⟩ := ga_end h
      exact x_iret dX31_repeats_96 rfl rfl trivial (hq hP)
  · rw [if_neg c5] at h
    refine x_iconst dX31_repeats_8 (by decide) ?_
    obtain ⟨rfl, rfl⟩ := ga_end h
    exact x_iret dX31_repeats_9 rfl rfl trivial (hq hP2)
theorem g_X31_step_j73_ok {G : aw_G} {M0 Mz : aw_M} {D' : ga_D} {Q : Option aw_V → aw_M → Prop} {r : Int} (hS : aw_St Mz) (hq : ga_P D' → Q (some (0, r)) (aw_wD Mz D')) {x1 x3 x5 : Int} {D : ga_D} (hP : ga_P D) (h : g_X31_step_j73 x1 x3 x5 D = some (r, D')) : aw_W G "WasteHouse$PurityOdds" cX31_step (some (.boolean)) 7 3 false M0 Q aw_no 0 0 73 [(0, (2, 4956)), (1, (1, x1)), (3, (1, x3)), (5, (1, x5))] [] (aw_wD Mz D) := by
  unfold g_X31_step_j73 at h
  refine x_aload_n dX31_step_73 rfl ?_
  refine x_getf (v := 4960) dX31_step_74 fl_X31_24 (aw_kS hS K_4956 (by decide)) (P_4956_6 hP) ?_
  refine x_aload_n dX31_step_77 rfl ?_
  refine x_getf (v := D 4956 8) dX31_step_78 fl_X31_152 (aw_kS hS K_4956 (by decide)) rfl ?_
  replace h := ga_ck_some h; obtain ⟨ha81, h⟩ := h
  refine x_aald (t := 15) (v := ((D 4956 8) + 5016)) dX31_step_81 (aw_kS hS K_4960 (by decide)) rfl rfl ha81.1 ha81.2 (E_4960 hP ha81.1 ha81.2) ?_
  refine x_lload_n dX31_step_82 rfl ?_
  refine x_lload_n dX31_step_83 rfl ?_
  replace h := ga_bind_some h; obtain ⟨r84, D84, g84, h⟩ := h
  refine x_callV (c := 0) (sl := 0) (as := [(1, x1), (1, x3)]) (rest := []) dX31_step_84 (g_X32_set_ok hS hP g84) (lw_V q5440 q5441 q5442 q431 q5443) (aw_kS hS (KE_4960 ha81.1 ha81.2) (by decide)) rfl rfl (show _ ∧ _ ∧ _ ∧ _ = some 2 from by decide +kernel) (by decide) (by decide) rfl (Nat.le_of_ble_eq_true rfl) ?_ aw_nox
  rintro _ _ ⟨rfl, rfl, hP84⟩ hx84
  refine x_aload_n dX31_step_87 rfl ?_
  refine x_getf (v := 4961) dX31_step_88 fl_X31_28 (aw_kS hS K_4956 (by decide)) (P_4956_7 hP84) ?_
  refine x_aload_n dX31_step_91 rfl ?_
  refine x_dup dX31_step_92 rfl ?_
  refine x_getf (v := D84 4956 8) dX31_step_93 fl_X31_152 (aw_kS hS K_4956 (by decide)) rfl ?_
  refine x_dup_x1 dX31_step_96 rfl rfl ?_
  refine x_iconst dX31_step_97 (by decide) ?_
  refine x_iadd dX31_step_98 rfl ?_
  replace h := ga_let_some h; obtain ⟨D99, eD99, h⟩ := h
  refine x_putf dX31_step_99 fl_X31_152 rfl (aw_kS hS K_4956 (by decide)) (by decide) trivial ?_
  refine x_nmD eD99 ?_
  have hP99 : ga_P D99 := ga_Pset eD99 hP84 (ga_Pn K_4956 rfl)
  refine x_lload dX31_step_102 rfl ?_
  refine x_l2i dX31_step_104 rfl ?_
  replace h := ga_ck_some h; obtain ⟨ha105, h⟩ := h
  replace h := ga_let_some h; obtain ⟨D105, eD105, h⟩ := h
  refine x_iast dX31_step_105 (aw_kS hS K_4961 (by decide)) (by decide) ha105.1 ha105.2 ?_
  refine x_nmD eD105 ?_
  have hP105 : ga_P D105 := ga_Pset eD105 hP99 (ga_Pn K_4961 rfl)
  refine x_iconst dX31_step_106 (by decide) ?_
  obtain ⟨rfl, rfl⟩ := ga_end h
  exact x_iret dX31_step_107 rfl rfl (show (0 : Int) ≤ 1 ∧ (1 : Int) < 2 from by decide) (hq hP105)
theorem g_X31_step_ok {G : aw_G} {Mz : aw_M} {D D' : ga_D} {r : Int} {x1 x3 x5 : Int} (hS : aw_St Mz) (hP : ga_P D) (h : g_X31_step x1 x3 x5 D = some (r, D')) : aw_Runs yX31_step cX31_step 7 (some (.boolean)) 3 0 0 G [(2, 4956), (1, x1), (1, x3), (1, x5)] (aw_wD Mz D) (aw_isP (some (0, r)) (aw_wD Mz D')) aw_no := by
  unfold g_X31_step at h
  refine aw_body (own := "WasteHouse$PurityOdds") (ini := false) (ls := [(0, (2, 4956)), (1, (1, x1)), (3, (1, x3)), (5, (1, x5))]) rfl rfl (fun h => by cases h) (Nat.le_of_ble_eq_true rfl) rfl ?_
  generalize hQ : aw_isP (some (0, r)) (aw_wD Mz D') = Q
  have hq : ga_P D' → Q (some (0, r)) (aw_wD Mz D') := by rw [← hQ]; exact fun hP => ⟨rfl, rfl, hP⟩
  clear hQ
  refine x_lload_n dX31_step_0 rfl ?_
  refine x_lload_n dX31_step_1 rfl ?_
  refine x_ldc2 (z := 1000) dX31_step_2 q5455 (by decide) ?_
  replace h := ga_bind_some h; obtain ⟨r5, D5, g5, h⟩ := h
  refine x_callS (c := 0) (sl := 0) (as := [(1, x1), (1, x3), (1, 1000)]) (rest := []) dX31_step_5 (g_X31_isShare_ok hS hP g5) (lw_S q6281 q6282 q430 q6283) (show _ ∧ _ ∧ _ = some 3 from by decide +kernel) (by decide) (by decide) rfl (Nat.le_of_ble_eq_true rfl) ?_ aw_nox
  rintro _ _ ⟨rfl, rfl, hP5⟩ hx5
  refine x_if_eq (tgt := 32) dX31_step_8 (by decide) (fun c8 => ?_) (fun c8 => ?_)
  · rw [if_pos c8] at h
    refine x_iconst dX31_step_32 (by decide) ?_
    obtain ⟨rfl, rfl⟩ := ga_end h
    exact x_iret dX31_step_33 rfl rfl (show (0 : Int) ≤ 0 ∧ (0 : Int) < 2 from by decide) (hq hP5)
  · rw [if_neg c8] at h
    refine x_lload dX31_step_11 rfl ?_
    refine x_lconst (v := 0) dX31_step_13 rfl ?_
    refine x_ldc2 (z := 100000) dX31_step_14 q6314 (by decide) ?_
    replace h := ga_bind_some h; obtain ⟨r17, D17, g17, h⟩ := h
    refine x_callS (c := 0) (sl := 0) (as := [(1, x5), (1, 0), (1, 100000)]) (rest := []) dX31_step_17 (g_X31_isIn_ok hS hP5 g17) (lw_S q5403 q5404 q430 q5405) (show _ ∧ _ ∧ _ = some 3 from by decide +kernel) (by decide) (by decide) rfl (Nat.le_of_ble_eq_true rfl) ?_ aw_nox
    rintro _ _ ⟨rfl, rfl, hP17⟩ hx17
    refine x_if_eq (tgt := 32) dX31_step_20 (by decide) (fun c20 => ?_) (fun c20 => ?_)
    · rw [if_pos c20] at h
      refine x_iconst dX31_step_32 (by decide) ?_
      obtain ⟨rfl, rfl⟩ := ga_end h
      exact x_iret dX31_step_33 rfl rfl (show (0 : Int) ≤ 0 ∧ (0 : Int) < 2 from by decide) (hq hP17)
    · rw [if_neg c20] at h
      refine x_aload_n dX31_step_23 rfl ?_
      refine x_getf (v := D17 4956 8) dX31_step_24 fl_X31_152 (aw_kS hS K_4956 (by decide)) rfl ?_
      refine x_bipush dX31_step_27 (by decide) ?_
      refine x_icmp_ne (tgt := 34) dX31_step_29 (by decide) (fun c29 => ?_) (fun c29 => ?_)
      · rw [if_pos c29] at h
        refine x_aload_n dX31_step_34 rfl ?_
        refine x_getf (v := 4965) dX31_step_35 fl_X31_43 (aw_kS hS K_4956 (by decide)) (P_4956_13 hP17) ?_
        refine x_lload_n dX31_step_38 rfl ?_
        refine x_lload_n dX31_step_39 rfl ?_
        replace h := ga_bind_some h; obtain ⟨r40, D40, g40, h⟩ := h
        refine x_callV (c := 0) (sl := 0) (as := [(1, x1), (1, x3)]) (rest := []) dX31_step_40 (g_X32_set_ok hS hP17 g40) (lw_V q5440 q5441 q5442 q431 q5443) (aw_kS hS K_4965 (by decide)) rfl rfl (show _ ∧ _ ∧ _ ∧ _ = some 2 from by decide +kernel) (by decide) (by decide) rfl (Nat.le_of_ble_eq_true rfl) ?_ aw_nox
        rintro _ _ ⟨rfl, rfl, hP40⟩ hx40
        refine x_aload_n dX31_step_43 rfl ?_
        refine x_getf (v := D40 4956 8) dX31_step_44 fl_X31_152 (aw_kS hS K_4956 (by decide)) rfl ?_
        refine x_if_le (tgt := 73) dX31_step_47 (by decide) (fun c47 => ?_) (fun c47 => ?_)
        · rw [if_pos c47] at h
          refine g_X31_step_j73_ok hS hq hP40 h
        · rw [if_neg c47] at h
          refine x_aload_n dX31_step_50 rfl ?_
          refine x_getf (v := 4965) dX31_step_51 fl_X31_43 (aw_kS hS K_4956 (by decide)) (P_4956_13 hP40) ?_
          refine x_aload_n dX31_step_54 rfl ?_
          refine x_getf (v := 4960) dX31_step_55 fl_X31_24 (aw_kS hS K_4956 (by decide)) (P_4956_6 hP40) ?_
          refine x_aload_n dX31_step_58 rfl ?_
          refine x_getf (v := D40 4956 8) dX31_step_59 fl_X31_152 (aw_kS hS K_4956 (by decide)) rfl ?_
          refine x_iconst dX31_step_62 (by decide) ?_
          refine x_isub dX31_step_63 rfl ?_
          replace h := ga_ck_some h; obtain ⟨ha64, h⟩ := h
          refine x_aald (t := 15) (v := ((aw_w32 ((D40 4956 8) - 1)) + 5016)) dX31_step_64 (aw_kS hS K_4960 (by decide)) rfl rfl ha64.1 ha64.2 (E_4960 hP40 ha64.1 ha64.2) ?_
          replace h := ga_bind_some h; obtain ⟨r65, D65, g65, h⟩ := h
          refine x_callV (c := 0) (sl := 0) (as := [(2, ((aw_w32 ((D40 4956 8) - 1)) + 5016))]) (rest := []) dX31_step_65 (g_X32_compare_ok hS hP40 g65) (lw_V q5448 q5449 q5450 q431 q5451) (aw_kS hS K_4965 (by decide)) rfl rfl (show _ ∧ _ ∧ _ ∧ _ = some 1 from by decide +kernel) (by decide) (by decide) rfl (Nat.le_of_ble_eq_true rfl) ?_ aw_nox
          rintro _ _ ⟨rfl, rfl, hP65⟩ hx65
          refine x_if_gt (tgt := 73) dX31_step_68 (by decide) (fun c68 => ?_) (fun c68 => ?_)
          · rw [if_pos c68] at h
            refine g_X31_step_j73_ok hS hq hP65 h
          · rw [if_neg c68] at h
            refine x_iconst dX31_step_71 (by decide) ?_
            obtain ⟨rfl, rfl⟩ := ga_end h
            exact x_iret dX31_step_72 rfl rfl (show (0 : Int) ≤ 0 ∧ (0 : Int) < 2 from by decide) (hq hP65)
      · rw [if_neg c29] at h
        refine x_iconst dX31_step_32 (by decide) ?_
        obtain ⟨rfl, rfl⟩ := ga_end h
        exact x_iret dX31_step_33 rfl rfl (show (0 : Int) ≤ 0 ∧ (0 : Int) < 2 from by decide) (hq hP17)
theorem g_X31_third_ok {G : aw_G} {Mz : aw_M} {D D' : ga_D} {r : Int} {x1 x2 x4 : Int} (hS : aw_St Mz) (hP : ga_P D) (h : g_X31_third x1 x2 x4 D = some (r, D')) : aw_Runs yX31_third cX31_third 8 (some (.int)) 4 0 0 G [(2, 4956), (0, x1), (1, x2), (1, x4)] (aw_wD Mz D) (aw_isP (some (0, r)) (aw_wD Mz D')) aw_no := by
  unfold g_X31_third at h
  refine aw_body (own := "WasteHouse$PurityOdds") (ini := false) (ls := [(0, (2, 4956)), (1, (0, x1)), (2, (1, x2)), (4, (1, x4))]) rfl rfl (fun h => by cases h) (Nat.le_of_ble_eq_true rfl) rfl ?_
  generalize hQ : aw_isP (some (0, r)) (aw_wD Mz D') = Q
  have hq : ga_P D' → Q (some (0, r)) (aw_wD Mz D') := by rw [← hQ]; exact fun hP => ⟨rfl, rfl, hP⟩
  clear hQ
  refine x_aload_n dX31_third_0 rfl ?_
  refine x_iload_n dX31_third_1 rfl ?_
  replace h := ga_bind_some h; obtain ⟨r2, D2, g2, h⟩ := h
  refine x_callV (c := 0) (sl := 0) (as := [(0, x1)]) (rest := []) dX31_third_2 (g_X31_isLot_ok hS hP g2) (lw_V q5417 q5419 qs97 q430 q5420) (aw_kS hS K_4956 (by decide)) rfl rfl (show _ ∧ _ ∧ _ ∧ _ = some 1 from by decide +kernel) (by decide) (by decide) rfl (Nat.le_of_ble_eq_true rfl) ?_ aw_nox
  rintro _ _ ⟨rfl, rfl, hP2⟩ hx2
  refine x_if_eq (tgt := 32) dX31_third_5 (by decide) (fun c5 => ?_) (fun c5 => ?_)
  · rw [if_pos c5] at h
    refine x_iconst dX31_third_32 (by decide) ?_
    obtain ⟨rfl, rfl⟩ := ga_end h
    exact x_iret dX31_third_33 rfl rfl trivial (hq hP2)
  · rw [if_neg c5] at h
    refine x_aload_n dX31_third_8 rfl ?_
    refine x_getf (v := 4959) dX31_third_9 fl_X31_18 (aw_kS hS K_4956 (by decide)) (P_4956_4 hP2) ?_
    refine x_iload_n dX31_third_12 rfl ?_
    replace h := ga_ck_some h; obtain ⟨ha13, h⟩ := h
    refine x_aald (t := 14) (v := (8 * x1 + 4968)) dX31_third_13 (aw_kS hS K_4959 (by decide)) rfl rfl ha13.1 ha13.2 (E_4959 hP2 ha13.1 ha13.2) ?_
    refine x_getf (v := D2 ((8 * x1 + 4968)) 3) dX31_third_14 fl_X31_133 (aw_kS hS (KE_4959 ha13.1 ha13.2) (by decide)) rfl ?_
    refine x_if_eq (tgt := 32) dX31_third_17 (by decide) (fun c17 => ?_) (fun c17 => ?_)
    · rw [if_pos c17] at h
      refine x_iconst dX31_third_32 (by decide) ?_
      obtain ⟨rfl, rfl⟩ := ga_end h
      exact x_iret dX31_third_33 rfl rfl trivial (hq hP2)
    · rw [if_neg c17] at h
      refine x_lload_n dX31_third_20 rfl ?_
      refine x_lload dX31_third_21 rfl ?_
      refine x_ldc2 (z := 1000) dX31_third_23 q5455 (by decide) ?_
      replace h := ga_bind_some h; obtain ⟨r26, D26, g26, h⟩ := h
      refine x_callS (c := 0) (sl := 0) (as := [(1, x2), (1, x4), (1, 1000)]) (rest := []) dX31_third_26 (g_X31_isShare_ok hS hP2 g26) (lw_S q6281 q6282 q430 q6283) (show _ ∧ _ ∧ _ = some 3 from by decide +kernel) (by decide) (by decide) rfl (Nat.le_of_ble_eq_true rfl) ?_ aw_nox
      rintro _ _ ⟨rfl, rfl, hP26⟩ hx26
      refine x_if_ne (tgt := 34) dX31_third_29 (by decide) (fun c29 => ?_) (fun c29 => ?_)
      · rw [if_pos c29] at h
        refine x_aload_n dX31_third_34 rfl ?_
        refine x_getf (v := 4959) dX31_third_35 fl_X31_18 (aw_kS hS K_4956 (by decide)) (P_4956_4 hP26) ?_
        refine x_iload_n dX31_third_38 rfl ?_
        replace h := ga_ck_some h; obtain ⟨ha39, h⟩ := h
        refine x_aald (t := 14) (v := (8 * x1 + 4968)) dX31_third_39 (aw_kS hS K_4959 (by decide)) rfl rfl ha39.1 ha39.2 (E_4959 hP26 ha39.1 ha39.2) ?_
        refine x_astore (ls' := [(6, (2, (8 * x1 + 4968))), (0, (2, 4956)), (1, (0, x1)), (2, (1, x2)), (4, (1, x4))]) dX31_third_40 (by decide) rfl ?_
        refine x_aload_n dX31_third_42 rfl ?_
        refine x_getf (v := 4966) dX31_third_43 fl_X31_46 (aw_kS hS K_4956 (by decide)) (P_4956_14 hP26) ?_
        refine x_aload dX31_third_46 rfl ?_
        refine x_getf (v := (8 * x1 + 4971)) dX31_third_48 fl_X31_142 (aw_kS hS (KE_4959 ha39.1 ha39.2) (by decide)) ((O_30_4 hP26 (KE_4959 ha39.1 ha39.2)).trans (by omega)) ?_
        refine x_iconst dX31_third_51 (by decide) ?_
        replace h := ga_ck_some h; obtain ⟨ha52, h⟩ := h
        refine x_lald (v := D26 ((8 * x1 + 4971)) 0) dX31_third_52 (aw_kS hS ((congrArg ga_K (show (8 * x1 + 4971) = (8 * x1 + 4968) + 3 by omega)).trans (KO_30_3 (KE_4959 ha39.1 ha39.2))) (by decide)) ha52.1 ha52.2 rfl ?_
        refine x_aload dX31_third_53 rfl ?_
        refine x_getf (v := D26 ((8 * x1 + 4968)) 5) dX31_third_55 fl_X31_145 (aw_kS hS (KE_4959 ha39.1 ha39.2) (by decide)) rfl ?_
        replace h := ga_bind_some h; obtain ⟨r58, D58, g58, h⟩ := h
        refine x_callV (c := 0) (sl := 0) (as := [(1, D26 ((8 * x1 + 4971)) 0), (1, D26 ((8 * x1 + 4968)) 5)]) (rest := []) dX31_third_58 (g_X32_set_ok hS hP26 g58) (lw_V q5440 q5441 q5442 q431 q5443) (aw_kS hS K_4966 (by decide)) rfl rfl (show _ ∧ _ ∧ _ ∧ _ = some 2 from by decide +kernel) (by decide) (by decide) rfl (Nat.le_of_ble_eq_true rfl) ?_ aw_nox
        rintro _ _ ⟨rfl, rfl, hP58⟩ hx58
        refine x_aload_n dX31_third_61 rfl ?_
        refine x_aload_n dX31_third_62 rfl ?_
        refine x_getf (v := 4966) dX31_third_63 fl_X31_46 (aw_kS hS K_4956 (by decide)) (P_4956_14 hP58) ?_
        replace h := ga_bind_some h; obtain ⟨r66, D66, g66, h⟩ := h
        refine x_callV (c := 0) (sl := 0) (as := [(2, 4966)]) (rest := []) dX31_third_66 (g_X31_stepOf_ok hS hP58 g66) (lw_V q5444 q5446 qs101 q430 q5447) (aw_kS hS K_4956 (by decide)) rfl rfl (show _ ∧ _ ∧ _ ∧ _ = some 1 from by decide +kernel) (by decide) (by decide) rfl (Nat.le_of_ble_eq_true rfl) ?_ aw_nox
        rintro _ _ ⟨rfl, rfl, hP66⟩ hx66
        refine x_istore (ls' := [(7, (0, r66)), (6, (2, (8 * x1 + 4968))), (0, (2, 4956)), (1, (0, x1)), (2, (1, x2)), (4, (1, x4))]) dX31_third_69 (by decide) rfl ?_
        refine x_aload dX31_third_71 rfl ?_
        refine x_iconst dX31_third_73 (by decide) ?_
        replace h := ga_let_some h; obtain ⟨D74, eD74, h⟩ := h
        refine x_putf dX31_third_74 fl_X31_155 rfl (aw_kS hS (KE_4959 ha39.1 ha39.2) (by decide)) (ga_ge (KE_4959 ha39.1 ha39.2) rfl) (show (0 : Int) ≤ 1 ∧ (1 : Int) < 2 from by decide) ?_
        refine x_nmD eD74 ?_
        have hP74 : ga_P D74 := ga_Pset eD74 hP66 (ga_Pn (KE_4959 ha39.1 ha39.2) rfl)
        refine x_aload dX31_third_77 rfl ?_
        refine x_getf (v := (8 * x1 + 4972)) dX31_third_79 fl_X31_158 (aw_kS hS (KE_4959 ha39.1 ha39.2) (by decide)) ((O_30_7 hP74 (KE_4959 ha39.1 ha39.2)).trans (by omega)) ?_
        refine x_lload_n dX31_third_82 rfl ?_
        refine x_lload dX31_third_83 rfl ?_
        replace h := ga_bind_some h; obtain ⟨r85, D85, g85, h⟩ := h
        refine x_callV (c := 0) (sl := 0) (as := [(1, x2), (1, x4)]) (rest := []) dX31_third_85 (g_X32_set_ok hS hP74 g85) (lw_V q5440 q5441 q5442 q431 q5443) (aw_kS hS ((congrArg ga_K (show (8 * x1 + 4972) = (8 * x1 + 4968) + 4 by omega)).trans (KO_30_4 (KE_4959 ha39.1 ha39.2))) (by decide)) rfl rfl (show _ ∧ _ ∧ _ ∧ _ = some 2 from by decide +kernel) (by decide) (by decide) rfl (Nat.le_of_ble_eq_true rfl) ?_ aw_nox
        rintro _ _ ⟨rfl, rfl, hP85⟩ hx85
        refine x_aload_n dX31_third_88 rfl ?_
        refine x_aload dX31_third_89 rfl ?_
        refine x_getf (v := (8 * x1 + 4972)) dX31_third_91 fl_X31_158 (aw_kS hS (KE_4959 ha39.1 ha39.2) (by decide)) ((O_30_7 hP85 (KE_4959 ha39.1 ha39.2)).trans (by omega)) ?_
        replace h := ga_bind_some h; obtain ⟨r94, D94, g94, h⟩ := h
        refine x_callV (c := 0) (sl := 0) (as := [(2, (8 * x1 + 4972))]) (rest := []) dX31_third_94 (g_X31_stepOf_ok hS hP85 g94) (lw_V q5444 q5446 qs101 q430 q5447) (aw_kS hS K_4956 (by decide)) rfl rfl (show _ ∧ _ ∧ _ ∧ _ = some 1 from by decide +kernel) (by decide) (by decide) rfl (Nat.le_of_ble_eq_true rfl) ?_ aw_nox
        rintro _ _ ⟨rfl, rfl, hP94⟩ hx94
        refine x_iload dX31_third_97 rfl ?_
        refine x_icmp_lt (tgt := 106) dX31_third_99 (by decide) (fun c99 => ?_) (fun c99 => ?_)
        · rw [if_pos c99] at h
          refine x_iconst dX31_third_106 (by decide) ?_
          obtain ⟨rfl, rfl⟩ := ga_end h
          exact x_iret dX31_third_107 rfl rfl trivial (hq hP94)
        · rw [if_neg c99] at h
          refine x_iconst dX31_third_102 (by decide) ?_
          refine x_goto (tgt := 107) dX31_third_103 (by decide) ?_
          obtain ⟨rfl, rfl⟩ := ga_end h
          exact x_iret dX31_third_107 rfl rfl trivial (hq hP94)
      · rw [if_neg c29] at h
        refine x_iconst dX31_third_32 (by decide) ?_
        obtain ⟨rfl, rfl⟩ := ga_end h
        exact x_iret dX31_third_33 rfl rfl trivial (hq hP26)
theorem g_X31_place_ok {G : aw_G} {Mz : aw_M} {D D' : ga_D} {r : Int} {x1 x2 : Int} (hS : aw_St Mz) (hP : ga_P D) (h : g_X31_place x1 x2 D = some (r, D')) : aw_Runs yX31_place cX31_place 3 (some (.int)) 2 0 0 G [(2, 4956), (0, x1), (0, x2)] (aw_wD Mz D) (aw_isP (some (0, r)) (aw_wD Mz D')) aw_no := by
  unfold g_X31_place at h
  refine aw_body (own := "WasteHouse$PurityOdds") (ini := false) (ls := [(0, (2, 4956)), (1, (0, x1)), (2, (0, x2))]) rfl rfl (fun h => by cases h) (Nat.le_of_ble_eq_true rfl) rfl ?_
  generalize hQ : aw_isP (some (0, r)) (aw_wD Mz D') = Q
  have hq : ga_P D' → Q (some (0, r)) (aw_wD Mz D') := by rw [← hQ]; exact fun hP => ⟨rfl, rfl, hP⟩
  clear hQ
  refine x_aload_n dX31_place_0 rfl ?_
  refine x_iload_n dX31_place_1 rfl ?_
  replace h := ga_bind_some h; obtain ⟨r2, D2, g2, h⟩ := h
  refine x_callV (c := 0) (sl := 0) (as := [(0, x1)]) (rest := []) dX31_place_2 (g_X31_isLot_ok hS hP g2) (lw_V q5417 q5419 qs97 q430 q5420) (aw_kS hS K_4956 (by decide)) rfl rfl (show _ ∧ _ ∧ _ ∧ _ = some 1 from by decide +kernel) (by decide) (by decide) rfl (Nat.le_of_ble_eq_true rfl) ?_ aw_nox
  rintro _ _ ⟨rfl, rfl, hP2⟩ hx2
  refine x_if_eq (tgt := 34) dX31_place_5 (by decide) (fun c5 => ?_) (fun c5 => ?_)
  · rw [if_pos c5] at h
    refine x_iconst dX31_place_34 (by decide) ?_
    obtain ⟨rfl, rfl⟩ := ga_end h
    exact x_iret dX31_place_35 rfl rfl trivial (hq hP2)
  · rw [if_neg c5] at h
    refine x_iload_n dX31_place_8 rfl ?_
    refine x_i2l dX31_place_9 rfl ?_
    refine x_lconst (v := 0) dX31_place_10 rfl ?_
    refine x_ldc2 (z := 99) dX31_place_11 q6324 (by decide) ?_
    replace h := ga_bind_some h; obtain ⟨r14, D14, g14, h⟩ := h
    refine x_callS (c := 0) (sl := 0) (as := [(1, x2), (1, 0), (1, 99)]) (rest := []) dX31_place_14 (g_X31_isIn_ok hS hP2 g14) (lw_S q5403 q5404 q430 q5405) (show _ ∧ _ ∧ _ = some 3 from by decide +kernel) (by decide) (by decide) rfl (Nat.le_of_ble_eq_true rfl) ?_ aw_nox
    rintro _ _ ⟨rfl, rfl, hP14⟩ hx14
    refine x_if_eq (tgt := 34) dX31_place_17 (by decide) (fun c17 => ?_) (fun c17 => ?_)
    · rw [if_pos c17] at h
      refine x_iconst dX31_place_34 (by decide) ?_
      obtain ⟨rfl, rfl⟩ := ga_end h
      exact x_iret dX31_place_35 rfl rfl trivial (hq hP14)
    · rw [if_neg c17] at h
      refine x_aload_n dX31_place_20 rfl ?_
      refine x_getf (v := 4959) dX31_place_21 fl_X31_18 (aw_kS hS K_4956 (by decide)) (P_4956_4 hP14) ?_
      refine x_iload_n dX31_place_24 rfl ?_
      replace h := ga_ck_some h; obtain ⟨ha25, h⟩ := h
      refine x_aald (t := 14) (v := (8 * x1 + 4968)) dX31_place_25 (aw_kS hS K_4959 (by decide)) rfl rfl ha25.1 ha25.2 (E_4959 hP14 ha25.1 ha25.2) ?_
      refine x_getf (v := (8 * x1 + 4975)) dX31_place_26 fl_X31_173 (aw_kS hS (KE_4959 ha25.1 ha25.2) (by decide)) ((O_30_11 hP14 (KE_4959 ha25.1 ha25.2)).trans (by omega)) ?_
      refine x_iload_n dX31_place_29 rfl ?_
      replace h := ga_ck_some h; obtain ⟨ha30, h⟩ := h
      refine x_bald (v := D14 ((8 * x1 + 4975)) x2) dX31_place_30 (aw_kS hS ((congrArg ga_K (show (8 * x1 + 4975) = (8 * x1 + 4968) + 7 by omega)).trans (KO_30_7 (KE_4959 ha25.1 ha25.2))) (by decide)) ha30.1 ha30.2 rfl ?_
      refine x_goto (tgt := 35) dX31_place_31 (by decide) ?_
      obtain ⟨rfl, rfl⟩ := ga_end h
      exact x_iret dX31_place_35 rfl rfl trivial (hq hP14)
theorem g_X31_dry_j100_ok {G : aw_G} {M0 Mz : aw_M} {D' : ga_D} {Q : Option aw_V → aw_M → Prop} {r : Int} (hS : aw_St Mz) (hq : ga_P D' → Q (some (0, r)) (aw_wD Mz D')) {x2 x4 x6 : Int} {D : ga_D} (hP : ga_P D) (h : g_X31_dry_j100 x2 x4 x6 D = some (r, D')) : aw_W G "WasteHouse$PurityOdds" cX31_dry (some (.boolean)) 7 2 false M0 Q aw_no 0 0 100 [(2, (1, x2)), (4, (1, x4)), (6, (2, x6))] [] (aw_wD Mz D) := by
  unfold g_X31_dry_j100 at h
  refine x_aload dX31_dry_100 rfl ?_
  replace h := ga_ck_some h; obtain ⟨hk102_0, h⟩ := h
  refine x_getf (v := (x6 + 5)) dX31_dry_102 fl_X31_180 (aw_kS hS hk102_0 (by decide)) (O_30_8 hP hk102_0) ?_
  refine x_aload dX31_dry_105 rfl ?_
  refine x_getf (v := D x6 10) dX31_dry_107 fl_X31_177 (aw_kS hS hk102_0 (by decide)) rfl ?_
  refine x_lload_n dX31_dry_110 rfl ?_
  refine x_l2i dX31_dry_111 rfl ?_
  replace h := ga_ck_some h; obtain ⟨ha112, h⟩ := h
  replace h := ga_let_some h; obtain ⟨D112, eD112, h⟩ := h
  refine x_iast dX31_dry_112 (aw_kS hS (KO_30_5 hk102_0) (by decide)) (by have := ga_ge hk102_0 rfl; omega) ha112.1 ha112.2 ?_
  refine x_nmD eD112 ?_
  have hP112 : ga_P D112 := ga_Pset eD112 hP (ga_Pn (KO_30_5 hk102_0) rfl)
  refine x_aload dX31_dry_113 rfl ?_
  refine x_getf (v := (x6 + 6)) dX31_dry_115 fl_X31_183 (aw_kS hS hk102_0 (by decide)) (O_30_9 hP112 hk102_0) ?_
  refine x_aload dX31_dry_118 rfl ?_
  refine x_dup dX31_dry_120 rfl ?_
  refine x_getf (v := D112 x6 10) dX31_dry_121 fl_X31_177 (aw_kS hS hk102_0 (by decide)) rfl ?_
  refine x_dup_x1 dX31_dry_124 rfl rfl ?_
  refine x_iconst dX31_dry_125 (by decide) ?_
  refine x_iadd dX31_dry_126 rfl ?_
  replace h := ga_let_some h; obtain ⟨D127, eD127, h⟩ := h
  refine x_putf dX31_dry_127 fl_X31_177 rfl (aw_kS hS hk102_0 (by decide)) (ga_ge hk102_0 rfl) trivial ?_
  refine x_nmD eD127 ?_
  have hP127 : ga_P D127 := ga_Pset eD127 hP112 (ga_Pn hk102_0 rfl)
  refine x_lload dX31_dry_130 rfl ?_
  refine x_l2i dX31_dry_132 rfl ?_
  replace h := ga_ck_some h; obtain ⟨ha133, h⟩ := h
  replace h := ga_let_some h; obtain ⟨D133, eD133, h⟩ := h
  refine x_iast dX31_dry_133 (aw_kS hS (KO_30_6 hk102_0) (by decide)) (by have := ga_ge hk102_0 rfl; omega) ha133.1 ha133.2 ?_
  refine x_nmD eD133 ?_
  have hP133 : ga_P D133 := ga_Pset eD133 hP127 (ga_Pn (KO_30_6 hk102_0) rfl)
  refine x_iconst dX31_dry_134 (by decide) ?_
  obtain ⟨rfl, rfl⟩ := ga_end h
  exact x_iret dX31_dry_135 rfl rfl (show (0 : Int) ≤ 1 ∧ (1 : Int) < 2 from by decide) (hq hP133)
theorem g_X31_dry_ok {G : aw_G} {Mz : aw_M} {D D' : ga_D} {r : Int} {x1 x2 x4 : Int} (hS : aw_St Mz) (hP : ga_P D) (h : g_X31_dry x1 x2 x4 D = some (r, D')) : aw_Runs yX31_dry cX31_dry 7 (some (.boolean)) 2 0 0 G [(2, 4956), (0, x1), (1, x2), (1, x4)] (aw_wD Mz D) (aw_isP (some (0, r)) (aw_wD Mz D')) aw_no := by
  unfold g_X31_dry at h
  refine aw_body (own := "WasteHouse$PurityOdds") (ini := false) (ls := [(0, (2, 4956)), (1, (0, x1)), (2, (1, x2)), (4, (1, x4))]) rfl rfl (fun h => by cases h) (Nat.le_of_ble_eq_true rfl) rfl ?_
  generalize hQ : aw_isP (some (0, r)) (aw_wD Mz D') = Q
  have hq : ga_P D' → Q (some (0, r)) (aw_wD Mz D') := by rw [← hQ]; exact fun hP => ⟨rfl, rfl, hP⟩
  clear hQ
  refine x_aload_n dX31_dry_0 rfl ?_
  refine x_iload_n dX31_dry_1 rfl ?_
  replace h := ga_bind_some h; obtain ⟨r2, D2, g2, h⟩ := h
  refine x_callV (c := 0) (sl := 0) (as := [(0, x1)]) (rest := []) dX31_dry_2 (g_X31_isLot_ok hS hP g2) (lw_V q5417 q5419 qs97 q430 q5420) (aw_kS hS K_4956 (by decide)) rfl rfl (show _ ∧ _ ∧ _ ∧ _ = some 1 from by decide +kernel) (by decide) (by decide) rfl (Nat.le_of_ble_eq_true rfl) ?_ aw_nox
  rintro _ _ ⟨rfl, rfl, hP2⟩ hx2
  refine x_if_eq (tgt := 31) dX31_dry_5 (by decide) (fun c5 => ?_) (fun c5 => ?_)
  · rw [if_pos c5] at h
    refine x_iconst dX31_dry_31 (by decide) ?_
    obtain ⟨rfl, rfl⟩ := ga_end h
    exact x_iret dX31_dry_32 rfl rfl (show (0 : Int) ≤ 0 ∧ (0 : Int) < 2 from by decide) (hq hP2)
  · rw [if_neg c5] at h
    refine x_lload_n dX31_dry_8 rfl ?_
    refine x_lconst (v := 0) dX31_dry_9 rfl ?_
    refine x_ldc2 (z := 1000000) dX31_dry_10 q5422 (by decide) ?_
    replace h := ga_bind_some h; obtain ⟨r13, D13, g13, h⟩ := h
    refine x_callS (c := 0) (sl := 0) (as := [(1, x2), (1, 0), (1, 1000000)]) (rest := []) dX31_dry_13 (g_X31_isIn_ok hS hP2 g13) (lw_S q5403 q5404 q430 q5405) (show _ ∧ _ ∧ _ = some 3 from by decide +kernel) (by decide) (by decide) rfl (Nat.le_of_ble_eq_true rfl) ?_ aw_nox
    rintro _ _ ⟨rfl, rfl, hP13⟩ hx13
    refine x_if_eq (tgt := 31) dX31_dry_16 (by decide) (fun c16 => ?_) (fun c16 => ?_)
    · rw [if_pos c16] at h
      refine x_iconst dX31_dry_31 (by decide) ?_
      obtain ⟨rfl, rfl⟩ := ga_end h
      exact x_iret dX31_dry_32 rfl rfl (show (0 : Int) ≤ 0 ∧ (0 : Int) < 2 from by decide) (hq hP13)
    · rw [if_neg c16] at h
      refine x_lload dX31_dry_19 rfl ?_
      refine x_lconst (v := 1) dX31_dry_21 rfl ?_
      refine x_ldc2 (z := 1000000000) dX31_dry_22 q5402 (by decide) ?_
      replace h := ga_bind_some h; obtain ⟨r25, D25, g25, h⟩ := h
      refine x_callS (c := 0) (sl := 0) (as := [(1, x4), (1, 1), (1, 1000000000)]) (rest := []) dX31_dry_25 (g_X31_isIn_ok hS hP13 g25) (lw_S q5403 q5404 q430 q5405) (show _ ∧ _ ∧ _ = some 3 from by decide +kernel) (by decide) (by decide) rfl (Nat.le_of_ble_eq_true rfl) ?_ aw_nox
      rintro _ _ ⟨rfl, rfl, hP25⟩ hx25
      refine x_if_ne (tgt := 33) dX31_dry_28 (by decide) (fun c28 => ?_) (fun c28 => ?_)
      · rw [if_pos c28] at h
        refine x_aload_n dX31_dry_33 rfl ?_
        refine x_getf (v := 4959) dX31_dry_34 fl_X31_18 (aw_kS hS K_4956 (by decide)) (P_4956_4 hP25) ?_
        refine x_iload_n dX31_dry_37 rfl ?_
        replace h := ga_ck_some h; obtain ⟨ha38, h⟩ := h
        refine x_aald (t := 14) (v := (8 * x1 + 4968)) dX31_dry_38 (aw_kS hS K_4959 (by decide)) rfl rfl ha38.1 ha38.2 (E_4959 hP25 ha38.1 ha38.2) ?_
        refine x_astore (ls' := [(6, (2, (8 * x1 + 4968))), (0, (2, 4956)), (1, (0, x1)), (2, (1, x2)), (4, (1, x4))]) dX31_dry_39 (by decide) rfl ?_
        refine x_aload dX31_dry_41 rfl ?_
        refine x_getf (v := D25 ((8 * x1 + 4968)) 10) dX31_dry_43 fl_X31_177 (aw_kS hS (KE_4959 ha38.1 ha38.2) (by decide)) rfl ?_
        refine x_bipush dX31_dry_46 (by decide) ?_
        refine x_icmp_eq (tgt := 98) dX31_dry_48 (by decide) (fun c48 => ?_) (fun c48 => ?_)
        · rw [if_pos c48] at h
          refine x_iconst dX31_dry_98 (by decide) ?_
          obtain ⟨rfl, rfl⟩ := ga_end h
          exact x_iret dX31_dry_99 rfl rfl (show (0 : Int) ≤ 0 ∧ (0 : Int) < 2 from by decide) (hq hP25)
        · rw [if_neg c48] at h
          refine x_aload dX31_dry_51 rfl ?_
          refine x_getf (v := D25 ((8 * x1 + 4968)) 10) dX31_dry_53 fl_X31_177 (aw_kS hS (KE_4959 ha38.1 ha38.2) (by decide)) rfl ?_
          refine x_if_le (tgt := 100) dX31_dry_56 (by decide) (fun c56 => ?_) (fun c56 => ?_)
          · rw [if_pos c56] at h
            refine x_locs [3, 4, 0] (ls' := [(2, (1, x2)), (4, (1, x4)), (6, (2, (8 * x1 + 4968)))]) rfl ?_
            refine g_X31_dry_j100_ok hS hq hP25 h
          · rw [if_neg c56] at h
            refine x_lload_n dX31_dry_59 rfl ?_
            refine x_aload dX31_dry_60 rfl ?_
            refine x_getf (v := (8 * x1 + 4973)) dX31_dry_62 fl_X31_180 (aw_kS hS (KE_4959 ha38.1 ha38.2) (by decide)) ((O_30_8 hP25 (KE_4959 ha38.1 ha38.2)).trans (by omega)) ?_
            refine x_aload dX31_dry_65 rfl ?_
            refine x_getf (v := D25 ((8 * x1 + 4968)) 10) dX31_dry_67 fl_X31_177 (aw_kS hS (KE_4959 ha38.1 ha38.2) (by decide)) rfl ?_
            refine x_iconst dX31_dry_70 (by decide) ?_
            refine x_isub dX31_dry_71 rfl ?_
            replace h := ga_ck_some h; obtain ⟨ha72, h⟩ := h
            refine x_iald (v := D25 ((8 * x1 + 4973)) (aw_w32 ((D25 ((8 * x1 + 4968)) 10) - 1))) dX31_dry_72 (aw_kS hS ((congrArg ga_K (show (8 * x1 + 4973) = (8 * x1 + 4968) + 5 by omega)).trans (KO_30_5 (KE_4959 ha38.1 ha38.2))) (by decide)) ha72.1 ha72.2 rfl ?_
            refine x_i2l dX31_dry_73 rfl ?_
            refine x_lcmp dX31_dry_74 rfl ?_
            refine x_if_le (tgt := 98) dX31_dry_75 (by decide) (fun c75 => ?_) (fun c75 => ?_)
            · rw [if_pos (cmi_le.mp c75)] at h
              refine x_iconst dX31_dry_98 (by decide) ?_
              obtain ⟨rfl, rfl⟩ := ga_end h
              exact x_iret dX31_dry_99 rfl rfl (show (0 : Int) ≤ 0 ∧ (0 : Int) < 2 from by decide) (hq hP25)
            · rw [if_neg (fun q => c75 (cmi_le.mpr q))] at h
              refine x_lload dX31_dry_78 rfl ?_
              refine x_aload dX31_dry_80 rfl ?_
              refine x_getf (v := (8 * x1 + 4974)) dX31_dry_82 fl_X31_183 (aw_kS hS (KE_4959 ha38.1 ha38.2) (by decide)) ((O_30_9 hP25 (KE_4959 ha38.1 ha38.2)).trans (by omega)) ?_
              refine x_aload dX31_dry_85 rfl ?_
              refine x_getf (v := D25 ((8 * x1 + 4968)) 10) dX31_dry_87 fl_X31_177 (aw_kS hS (KE_4959 ha38.1 ha38.2) (by decide)) rfl ?_
              refine x_iconst dX31_dry_90 (by decide) ?_
              refine x_isub dX31_dry_91 rfl ?_
              replace h := ga_ck_some h; obtain ⟨ha92, h⟩ := h
              refine x_iald (v := D25 ((8 * x1 + 4974)) (aw_w32 ((D25 ((8 * x1 + 4968)) 10) - 1))) dX31_dry_92 (aw_kS hS ((congrArg ga_K (show (8 * x1 + 4974) = (8 * x1 + 4968) + 6 by omega)).trans (KO_30_6 (KE_4959 ha38.1 ha38.2))) (by decide)) ha92.1 ha92.2 rfl ?_
              refine x_i2l dX31_dry_93 rfl ?_
              refine x_lcmp dX31_dry_94 rfl ?_
              refine x_if_le (tgt := 100) dX31_dry_95 (by decide) (fun c95 => ?_) (fun c95 => ?_)
              · rw [if_pos (cmi_le.mp c95)] at h
                refine x_locs [3, 4, 0] (ls' := [(2, (1, x2)), (4, (1, x4)), (6, (2, (8 * x1 + 4968)))]) rfl ?_
                refine g_X31_dry_j100_ok hS hq hP25 h
              · rw [if_neg (fun q => c95 (cmi_le.mpr q))] at h
                refine x_iconst dX31_dry_98 (by decide) ?_
                obtain ⟨rfl, rfl⟩ := ga_end h
                exact x_iret dX31_dry_99 rfl rfl (show (0 : Int) ≤ 0 ∧ (0 : Int) < 2 from by decide) (hq hP25)
      · rw [if_neg c28] at h
        refine x_iconst dX31_dry_31 (by decide) ?_
        obtain ⟨rfl, rfl⟩ := ga_end h
        exact x_iret dX31_dry_32 rfl rfl (show (0 : Int) ≤ 0 ∧ (0 : Int) < 2 from by decide) (hq hP25)
theorem g_X33_isDry_ok {G : aw_G} {Mz : aw_M} {D D' : ga_D} {r : Int} {x0 : Int} (hS : aw_St Mz) (hP : ga_P D) (h : g_X33_isDry x0 D = some (r, D')) : aw_Runs yX33_isDry cX33_isDry 1 (some (.boolean)) 1 0 0 G [(2, x0)] (aw_wD Mz D) (aw_isP (some (0, r)) (aw_wD Mz D')) aw_no := by
  unfold g_X33_isDry at h
  refine aw_body (own := "WasteHouse$PurityOdds$Lot") (ini := false) (ls := [(0, (2, x0))]) rfl rfl (fun h => by cases h) (Nat.le_of_ble_eq_true rfl) rfl ?_
  generalize hQ : aw_isP (some (0, r)) (aw_wD Mz D') = Q
  have hq : ga_P D' → Q (some (0, r)) (aw_wD Mz D') := by rw [← hQ]; exact fun hP => ⟨rfl, rfl, hP⟩
  clear hQ
  refine x_aload_n dX33_isDry_0 rfl ?_
  replace h := ga_ck_some h; obtain ⟨hk1_0, h⟩ := h
  refine x_getf (v := D x0 10) dX33_isDry_1 fl_X33_43 (aw_kS hS hk1_0 (by decide)) rfl ?_
  refine x_iconst dX33_isDry_4 (by decide) ?_
  refine x_icmp_le (tgt := 37) dX33_isDry_5 (by decide) (fun c5 => ?_) (fun c5 => ?_)
  · rw [if_pos c5] at h
    refine x_iconst dX33_isDry_37 (by decide) ?_
    obtain ⟨rfl, rfl⟩ := ga_end h
    exact x_iret dX33_isDry_38 rfl rfl (show (0 : Int) ≤ 0 ∧ (0 : Int) < 2 from by decide) (hq hP)
  · rw [if_neg c5] at h
    refine x_aload_n dX33_isDry_8 rfl ?_
    refine x_getf (v := (x0 + 6)) dX33_isDry_9 fl_X33_32 (aw_kS hS hk1_0 (by decide)) (O_30_9 hP hk1_0) ?_
    refine x_aload_n dX33_isDry_12 rfl ?_
    refine x_getf (v := D x0 10) dX33_isDry_13 fl_X33_43 (aw_kS hS hk1_0 (by decide)) rfl ?_
    refine x_iconst dX33_isDry_16 (by decide) ?_
    refine x_isub dX33_isDry_17 rfl ?_
    replace h := ga_ck_some h; obtain ⟨ha18, h⟩ := h
    refine x_iald (v := D ((x0 + 6)) (aw_w32 ((D x0 10) - 1))) dX33_isDry_18 (aw_kS hS (KO_30_6 hk1_0) (by decide)) ha18.1 ha18.2 rfl ?_
    refine x_aload_n dX33_isDry_19 rfl ?_
    refine x_getf (v := (x0 + 6)) dX33_isDry_20 fl_X33_32 (aw_kS hS hk1_0 (by decide)) (O_30_9 hP hk1_0) ?_
    refine x_aload_n dX33_isDry_23 rfl ?_
    refine x_getf (v := D x0 10) dX33_isDry_24 fl_X33_43 (aw_kS hS hk1_0 (by decide)) rfl ?_
    refine x_iconst dX33_isDry_27 (by decide) ?_
    refine x_isub dX33_isDry_28 rfl ?_
    replace h := ga_ck_some h; obtain ⟨ha29, h⟩ := h
    refine x_iald (v := D ((x0 + 6)) (aw_w32 ((D x0 10) - 2))) dX33_isDry_29 (aw_kS hS (KO_30_6 hk1_0) (by decide)) ha29.1 ha29.2 rfl ?_
    refine x_icmp_ne (tgt := 37) dX33_isDry_30 (by decide) (fun c30 => ?_) (fun c30 => ?_)
    · rw [if_pos c30] at h
      refine x_iconst dX33_isDry_37 (by decide) ?_
      obtain ⟨rfl, rfl⟩ := ga_end h
      exact x_iret dX33_isDry_38 rfl rfl (show (0 : Int) ≤ 0 ∧ (0 : Int) < 2 from by decide) (hq hP)
    · rw [if_neg c30] at h
      refine x_iconst dX33_isDry_33 (by decide) ?_
      refine x_goto (tgt := 38) dX33_isDry_34 (by decide) ?_
      obtain ⟨rfl, rfl⟩ := ga_end h
      exact x_iret dX33_isDry_38 rfl rfl (show (0 : Int) ≤ 1 ∧ (1 : Int) < 2 from by decide) (hq hP)
theorem g_X31_moisture_ok {G : aw_G} {Mz : aw_M} {D D' : ga_D} {r : Int} {x1 x2 : Int} (hS : aw_St Mz) (hP : ga_P D) (h : g_X31_moisture x1 x2 D = some (r, D')) : aw_Runs yX31_moisture cX31_moisture 4 (some (.long)) 2 0 0 G [(2, 4956), (0, x1), (0, x2)] (aw_wD Mz D) (aw_isP (some (1, r)) (aw_wD Mz D')) aw_no := by
  unfold g_X31_moisture at h
  refine aw_body (own := "WasteHouse$PurityOdds") (ini := false) (ls := [(0, (2, 4956)), (1, (0, x1)), (2, (0, x2))]) rfl rfl (fun h => by cases h) (Nat.le_of_ble_eq_true rfl) rfl ?_
  generalize hQ : aw_isP (some (1, r)) (aw_wD Mz D') = Q
  have hq : ga_P D' → Q (some (1, r)) (aw_wD Mz D') := by rw [← hQ]; exact fun hP => ⟨rfl, rfl, hP⟩
  clear hQ
  refine x_aload_n dX31_moisture_0 rfl ?_
  refine x_iload_n dX31_moisture_1 rfl ?_
  replace h := ga_bind_some h; obtain ⟨r2, D2, g2, h⟩ := h
  refine x_callV (c := 0) (sl := 0) (as := [(0, x1)]) (rest := []) dX31_moisture_2 (g_X31_isLot_ok hS hP g2) (lw_V q5417 q5419 qs97 q430 q5420) (aw_kS hS K_4956 (by decide)) rfl rfl (show _ ∧ _ ∧ _ ∧ _ = some 1 from by decide +kernel) (by decide) (by decide) rfl (Nat.le_of_ble_eq_true rfl) ?_ aw_nox
  rintro _ _ ⟨rfl, rfl, hP2⟩ hx2
  refine x_if_eq (tgt := 20) dX31_moisture_5 (by decide) (fun c5 => ?_) (fun c5 => ?_)
  · rw [if_pos c5] at h
    refine x_ldc2 (z := (-1)) dX31_moisture_20 q5435 (by decide) ?_
    obtain ⟨rfl, rfl⟩ := ga_end h
    exact x_lret dX31_moisture_23 rfl (hq hP2)
  · rw [if_neg c5] at h
    refine x_aload_n dX31_moisture_8 rfl ?_
    refine x_getf (v := 4959) dX31_moisture_9 fl_X31_18 (aw_kS hS K_4956 (by decide)) (P_4956_4 hP2) ?_
    refine x_iload_n dX31_moisture_12 rfl ?_
    replace h := ga_ck_some h; obtain ⟨ha13, h⟩ := h
    refine x_aald (t := 14) (v := (8 * x1 + 4968)) dX31_moisture_13 (aw_kS hS K_4959 (by decide)) rfl rfl ha13.1 ha13.2 (E_4959 hP2 ha13.1 ha13.2) ?_
    replace h := ga_bind_some h; obtain ⟨r14, D14, g14, h⟩ := h
    refine x_callV (c := 0) (sl := 0) (as := []) (rest := []) dX31_moisture_14 (g_X33_isDry_ok hS hP2 g14) (lw_V q6333 q6334 q6335 q432 q6336) (aw_kS hS (KE_4959 ha13.1 ha13.2) (by decide)) rfl rfl (show _ ∧ _ ∧ _ ∧ _ = some 0 from by decide +kernel) (by decide) (by decide) rfl (Nat.le_of_ble_eq_true rfl) ?_ aw_nox
    rintro _ _ ⟨rfl, rfl, hP14⟩ hx14
    refine x_if_ne (tgt := 24) dX31_moisture_17 (by decide) (fun c17 => ?_) (fun c17 => ?_)
    · rw [if_pos c17] at h
      refine x_aload_n dX31_moisture_24 rfl ?_
      refine x_getf (v := 4959) dX31_moisture_25 fl_X31_18 (aw_kS hS K_4956 (by decide)) (P_4956_4 hP14) ?_
      refine x_iload_n dX31_moisture_28 rfl ?_
      replace h := ga_ck_some h; obtain ⟨ha29, h⟩ := h
      refine x_aald (t := 14) (v := (8 * x1 + 4968)) dX31_moisture_29 (aw_kS hS K_4959 (by decide)) rfl rfl ha29.1 ha29.2 (E_4959 hP14 ha29.1 ha29.2) ?_
      refine x_astore_n (ls' := [(3, (2, (8 * x1 + 4968))), (0, (2, 4956)), (1, (0, x1)), (2, (0, x2))]) dX31_moisture_30 (by decide) rfl ?_
      refine x_aload_n dX31_moisture_31 rfl ?_
      refine x_getf (v := 4965) dX31_moisture_32 fl_X31_43 (aw_kS hS K_4956 (by decide)) (P_4956_13 hP14) ?_
      refine x_aload_n dX31_moisture_35 rfl ?_
      refine x_getf (v := (8 * x1 + 4974)) dX31_moisture_36 fl_X31_183 (aw_kS hS (KE_4959 ha29.1 ha29.2) (by decide)) ((O_30_9 hP14 (KE_4959 ha29.1 ha29.2)).trans (by omega)) ?_
      refine x_iconst dX31_moisture_39 (by decide) ?_
      replace h := ga_ck_some h; obtain ⟨ha40, h⟩ := h
      refine x_iald (v := D14 ((8 * x1 + 4974)) 0) dX31_moisture_40 (aw_kS hS ((congrArg ga_K (show (8 * x1 + 4974) = (8 * x1 + 4968) + 6 by omega)).trans (KO_30_6 (KE_4959 ha29.1 ha29.2))) (by decide)) ha40.1 ha40.2 rfl ?_
      refine x_aload_n dX31_moisture_41 rfl ?_
      refine x_getf (v := (8 * x1 + 4974)) dX31_moisture_42 fl_X31_183 (aw_kS hS (KE_4959 ha29.1 ha29.2) (by decide)) ((O_30_9 hP14 (KE_4959 ha29.1 ha29.2)).trans (by omega)) ?_
      refine x_aload_n dX31_moisture_45 rfl ?_
      refine x_getf (v := D14 ((8 * x1 + 4968)) 10) dX31_moisture_46 fl_X31_177 (aw_kS hS (KE_4959 ha29.1 ha29.2) (by decide)) rfl ?_
      refine x_iconst dX31_moisture_49 (by decide) ?_
      refine x_isub dX31_moisture_50 rfl ?_
      replace h := ga_ck_some h; obtain ⟨ha51, h⟩ := h
      refine x_iald (v := D14 ((8 * x1 + 4974)) (aw_w32 ((D14 ((8 * x1 + 4968)) 10) - 1))) dX31_moisture_51 (aw_kS hS ((congrArg ga_K (show (8 * x1 + 4974) = (8 * x1 + 4968) + 6 by omega)).trans (KO_30_6 (KE_4959 ha29.1 ha29.2))) (by decide)) ha51.1 ha51.2 rfl ?_
      refine x_isub dX31_moisture_52 rfl ?_
      refine x_i2l dX31_moisture_53 rfl ?_
      refine x_aload_n dX31_moisture_54 rfl ?_
      refine x_getf (v := (8 * x1 + 4974)) dX31_moisture_55 fl_X31_183 (aw_kS hS (KE_4959 ha29.1 ha29.2) (by decide)) ((O_30_9 hP14 (KE_4959 ha29.1 ha29.2)).trans (by omega)) ?_
      refine x_iconst dX31_moisture_58 (by decide) ?_
      replace h := ga_ck_some h; obtain ⟨ha59, h⟩ := h
      refine x_iald (v := D14 ((8 * x1 + 4974)) 0) dX31_moisture_59 (aw_kS hS ((congrArg ga_K (show (8 * x1 + 4974) = (8 * x1 + 4968) + 6 by omega)).trans (KO_30_6 (KE_4959 ha29.1 ha29.2))) (by decide)) ha59.1 ha59.2 rfl ?_
      refine x_i2l dX31_moisture_60 rfl ?_
      replace h := ga_bind_some h; obtain ⟨r61, D61, g61, h⟩ := h
      refine x_callV (c := 0) (sl := 0) (as := [(1, aw_w32 ((D14 ((8 * x1 + 4974)) 0) - (D14 ((8 * x1 + 4974)) (aw_w32 ((D14 ((8 * x1 + 4968)) 10) - 1))))), (1, D14 ((8 * x1 + 4974)) 0)]) (rest := []) dX31_moisture_61 (g_X32_set_ok hS hP14 g61) (lw_V q5440 q5441 q5442 q431 q5443) (aw_kS hS K_4965 (by decide)) rfl rfl (show _ ∧ _ ∧ _ ∧ _ = some 2 from by decide +kernel) (by decide) (by decide) rfl (Nat.le_of_ble_eq_true rfl) ?_ aw_nox
      rintro _ _ ⟨rfl, rfl, hP61⟩ hx61
      refine x_aload_n dX31_moisture_64 rfl ?_
      refine x_getf (v := 4965) dX31_moisture_65 fl_X31_43 (aw_kS hS K_4956 (by decide)) (P_4956_13 hP61) ?_
      refine x_iload_n dX31_moisture_68 rfl ?_
      replace h := ga_bind_some h; obtain ⟨r69, D69, g69, h⟩ := h
      refine x_callV (c := 0) (sl := 0) (as := [(0, x2)]) (rest := []) dX31_moisture_69 (g_X32_part_ok hS hP61 g69) (lw_V q5485 q5486 q5487 q431 q5488) (aw_kS hS K_4965 (by decide)) rfl rfl (show _ ∧ _ ∧ _ ∧ _ = some 1 from by decide +kernel) (by decide) (by decide) rfl (Nat.le_of_ble_eq_true rfl) ?_ aw_nox
      rintro _ _ ⟨rfl, rfl, hP69⟩ hx69
      obtain ⟨rfl, rfl⟩ := ga_end h
      exact x_lret dX31_moisture_72 rfl (hq hP69)
    · rw [if_neg c17] at h
      refine x_ldc2 (z := (-1)) dX31_moisture_20 q5435 (by decide) ?_
      obtain ⟨rfl, rfl⟩ := ga_end h
      exact x_lret dX31_moisture_23 rfl (hq hP14)
theorem g_X31_trend_ok {G : aw_G} {Mz : aw_M} {D D' : ga_D} {r : Int} {x1 : Int} (hS : aw_St Mz) (hP : ga_P D) (h : g_X31_trend x1 D = some (r, D')) : aw_Runs yX31_trend cX31_trend 3 (some (.int)) 3 0 0 G [(2, 4956), (0, x1)] (aw_wD Mz D) (aw_isP (some (0, r)) (aw_wD Mz D')) aw_no := by
  unfold g_X31_trend at h
  refine aw_body (own := "WasteHouse$PurityOdds") (ini := false) (ls := [(0, (2, 4956)), (1, (0, x1))]) rfl rfl (fun h => by cases h) (Nat.le_of_ble_eq_true rfl) rfl ?_
  generalize hQ : aw_isP (some (0, r)) (aw_wD Mz D') = Q
  have hq : ga_P D' → Q (some (0, r)) (aw_wD Mz D') := by rw [← hQ]; exact fun hP => ⟨rfl, rfl, hP⟩
  clear hQ
  refine x_aload_n dX31_trend_0 rfl ?_
  refine x_iload_n dX31_trend_1 rfl ?_
  replace h := ga_bind_some h; obtain ⟨r2, D2, g2, h⟩ := h
  refine x_callV (c := 0) (sl := 0) (as := [(0, x1)]) (rest := []) dX31_trend_2 (g_X31_isKnown_ok hS hP g2) (lw_V q5431 q5433 qs99 q430 q5434) (aw_kS hS K_4956 (by decide)) rfl rfl (show _ ∧ _ ∧ _ ∧ _ = some 1 from by decide +kernel) (by decide) (by decide) rfl (Nat.le_of_ble_eq_true rfl) ?_ aw_nox
  rintro _ _ ⟨rfl, rfl, hP2⟩ hx2
  refine x_if_eq (tgt := 18) dX31_trend_5 (by decide) (fun c5 => ?_) (fun c5 => ?_)
  · rw [if_pos c5] at h
    refine x_iconst dX31_trend_18 (by decide) ?_
    obtain ⟨rfl, rfl⟩ := ga_end h
    exact x_iret dX31_trend_19 rfl rfl trivial (hq hP2)
  · rw [if_neg c5] at h
    refine x_aload_n dX31_trend_8 rfl ?_
    refine x_iload_n dX31_trend_9 rfl ?_
    refine x_iconst dX31_trend_10 (by decide) ?_
    refine x_iadd dX31_trend_11 rfl ?_
    replace h := ga_bind_some h; obtain ⟨r12, D12, g12, h⟩ := h
    refine x_callV (c := 0) (sl := 0) (as := [(0, aw_w32 (x1 + 1))]) (rest := []) dX31_trend_12 (g_X31_isKnown_ok hS hP2 g12) (lw_V q5431 q5433 qs99 q430 q5434) (aw_kS hS K_4956 (by decide)) rfl rfl (show _ ∧ _ ∧ _ ∧ _ = some 1 from by decide +kernel) (by decide) (by decide) rfl (Nat.le_of_ble_eq_true rfl) ?_ aw_nox
    rintro _ _ ⟨rfl, rfl, hP12⟩ hx12
    refine x_if_ne (tgt := 20) dX31_trend_15 (by decide) (fun c15 => ?_) (fun c15 => ?_)
    · rw [if_pos c15] at h
      refine x_aload_n dX31_trend_20 rfl ?_
      refine x_aload_n dX31_trend_21 rfl ?_
      refine x_getf (v := 4959) dX31_trend_22 fl_X31_18 (aw_kS hS K_4956 (by decide)) (P_4956_4 hP12) ?_
      refine x_iload_n dX31_trend_25 rfl ?_
      replace h := ga_ck_some h; obtain ⟨ha26, h⟩ := h
      refine x_aald (t := 14) (v := (8 * x1 + 4968)) dX31_trend_26 (aw_kS hS K_4959 (by decide)) rfl rfl ha26.1 ha26.2 (E_4959 hP12 ha26.1 ha26.2) ?_
      refine x_aload_n dX31_trend_27 rfl ?_
      refine x_getf (v := 4965) dX31_trend_28 fl_X31_43 (aw_kS hS K_4956 (by decide)) (P_4956_13 hP12) ?_
      replace h := ga_bind_some h; obtain ⟨r31, D31, g31, h⟩ := h
      refine x_callV (c := 0) (sl := 0) (as := [(2, (8 * x1 + 4968)), (2, 4965)]) (rest := []) dX31_trend_31 (g_X31_purity_ok hS hP12 g31) (lw_V q5436 q5438 qs100 q430 q5439) (aw_kS hS K_4956 (by decide)) rfl rfl (show _ ∧ _ ∧ _ ∧ _ = some 2 from by decide +kernel) (by decide) (by decide) rfl (Nat.le_of_ble_eq_true rfl) ?_ aw_nox
      rintro _ _ ⟨rfl, rfl, hP31⟩ hx31
      refine x_aload_n dX31_trend_34 rfl ?_
      refine x_aload_n dX31_trend_35 rfl ?_
      refine x_getf (v := 4959) dX31_trend_36 fl_X31_18 (aw_kS hS K_4956 (by decide)) (P_4956_4 hP31) ?_
      refine x_iload_n dX31_trend_39 rfl ?_
      refine x_iconst dX31_trend_40 (by decide) ?_
      refine x_iadd dX31_trend_41 rfl ?_
      replace h := ga_ck_some h; obtain ⟨ha42, h⟩ := h
      refine x_aald (t := 14) (v := (8 * (aw_w32 (x1 + 1)) + 4968)) dX31_trend_42 (aw_kS hS K_4959 (by decide)) rfl rfl ha42.1 ha42.2 (E_4959 hP31 ha42.1 ha42.2) ?_
      refine x_aload_n dX31_trend_43 rfl ?_
      refine x_getf (v := 4966) dX31_trend_44 fl_X31_46 (aw_kS hS K_4956 (by decide)) (P_4956_14 hP31) ?_
      replace h := ga_bind_some h; obtain ⟨r47, D47, g47, h⟩ := h
      refine x_callV (c := 0) (sl := 0) (as := [(2, (8 * (aw_w32 (x1 + 1)) + 4968)), (2, 4966)]) (rest := []) dX31_trend_47 (g_X31_purity_ok hS hP31 g47) (lw_V q5436 q5438 qs100 q430 q5439) (aw_kS hS K_4956 (by decide)) rfl rfl (show _ ∧ _ ∧ _ ∧ _ = some 2 from by decide +kernel) (by decide) (by decide) rfl (Nat.le_of_ble_eq_true rfl) ?_ aw_nox
      rintro _ _ ⟨rfl, rfl, hP47⟩ hx47
      refine x_aload_n dX31_trend_50 rfl ?_
      refine x_getf (v := 4966) dX31_trend_51 fl_X31_46 (aw_kS hS K_4956 (by decide)) (P_4956_14 hP47) ?_
      refine x_aload_n dX31_trend_54 rfl ?_
      refine x_getf (v := 4965) dX31_trend_55 fl_X31_43 (aw_kS hS K_4956 (by decide)) (P_4956_13 hP47) ?_
      replace h := ga_bind_some h; obtain ⟨r58, D58, g58, h⟩ := h
      refine x_callV (c := 0) (sl := 0) (as := [(2, 4965)]) (rest := []) dX31_trend_58 (g_X32_compare_ok hS hP47 g58) (lw_V q5448 q5449 q5450 q431 q5451) (aw_kS hS K_4966 (by decide)) rfl rfl (show _ ∧ _ ∧ _ ∧ _ = some 1 from by decide +kernel) (by decide) (by decide) rfl (Nat.le_of_ble_eq_true rfl) ?_ aw_nox
      rintro _ _ ⟨rfl, rfl, hP58⟩ hx58
      refine x_istore_n (ls' := [(2, (0, r58)), (0, (2, 4956)), (1, (0, x1))]) dX31_trend_61 (by decide) rfl ?_
      refine x_iload_n dX31_trend_62 rfl ?_
      refine x_if_ge (tgt := 70) dX31_trend_63 (by decide) (fun c63 => ?_) (fun c63 => ?_)
      · rw [if_pos c63] at h
        refine x_iload_n dX31_trend_70 rfl ?_
        obtain ⟨rfl, rfl⟩ := ga_end h
        exact x_iret dX31_trend_71 rfl rfl trivial (hq hP58)
      · rw [if_neg c63] at h
        refine x_iconst dX31_trend_66 (by decide) ?_
        refine x_goto (tgt := 71) dX31_trend_67 (by decide) ?_
        obtain ⟨rfl, rfl⟩ := ga_end h
        exact x_iret dX31_trend_71 rfl rfl trivial (hq hP58)
    · rw [if_neg c15] at h
      refine x_iconst dX31_trend_18 (by decide) ?_
      obtain ⟨rfl, rfl⟩ := ga_end h
      exact x_iret dX31_trend_19 rfl rfl trivial (hq hP12)
