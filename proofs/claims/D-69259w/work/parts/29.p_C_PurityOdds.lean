theorem g_X31_isIn_pr {x0 x2 x4 : Int} {D : ga_D} : ga_pr D (g_X31_isIn x0 x2 x4 D) := by
  unfold g_X31_isIn
  refine pr_ite (fun c3 => ?_) (fun c3 => ?_)
  exact pr_some
  refine pr_ite (fun c10 => ?_) (fun c10 => ?_)
  exact pr_some
  exact pr_some
theorem g_X33_draw_l2_pr  {k22 : Int → Int → ga_D → ga_S} (hk22 : ∀ (x0 x1 : Int) (D : ga_D), ga_pr D (k22 x0 x1 D)) : ∀ (n : Nat) (x0 x1 x3 : Int) (D : ga_D), ga_pr D (g_X33_draw_l2 n x0 x1 x3 D k22) := by
  intro n
  induction n with
  | zero => intro x0 x1 x3 D; exact pr_none
  | succ n ih =>
    intro x0 x1 x3 D
    show ga_pr D (if 100 ≤ x3 then (k22 x0 x1 D) else (ga_ck (ga_K x0 = (30, 0)) (ga_ck (0 ≤ x3 ∧ x3 < 100 ∧ (-128) ≤ aw_i2b x3 ∧ aw_i2b x3 < 128) (ga_let (ga_set D ((x0 + 7)) x3 (aw_i2b x3)) (fun D15 => ga_let (aw_w32 (x3 + 1)) (fun v16 => g_X33_draw_l2 n x0 x1 v16 D15 k22))))))
    refine pr_ite (fun c5 => ?_) (fun c5 => ?_)
    exact hk22 _ _ _ 
    refine pr_ck (fun hk9_0 => ?_)
    refine pr_ck (fun ha15 => ?_)
    refine pr_upd (ga_Pn (KO_30_7 hk9_0) rfl) (fun D15 => ?_)
    refine pr_let (fun v16 => ?_)
    exact ih _ _ _ _ 
theorem g_X33_draw_l28_pr  {k94 : ga_D → ga_S} (hk94 : ∀ (D : ga_D), ga_pr D (k94 D)) : ∀ (n : Nat) (x0 x3 x5 : Int) (D : ga_D), ga_pr D (g_X33_draw_l28 n x0 x3 x5 D k94) := by
  intro n
  induction n with
  | zero => intro x0 x3 x5 D; exact pr_none
  | succ n ih =>
    intro x0 x3 x5 D
    show ga_pr D (if x5 ≤ 0 then (k94 D) else (ga_let (aw_w64 ((aw_w64 (x3 * 6364136223846793005)) + 1442695040888963407)) (fun v42 => ga_ck (aw_w32 (x5 + 1) ≠ 0) (ga_let (aw_w32 (Int.tmod (aw_lushr v42 33) (aw_w32 (x5 + 1)))) (fun v54 => ga_ck (ga_K x0 = (30, 0)) (ga_ck (0 ≤ x5 ∧ x5 < 100) (ga_let (D ((x0 + 7)) x5) (fun v63 => ga_ck (0 ≤ v54 ∧ v54 < 100) (ga_ck (0 ≤ x5 ∧ x5 < 100 ∧ (-128) ≤ D ((x0 + 7)) v54 ∧ D ((x0 + 7)) v54 < 128) (ga_let (ga_set D ((x0 + 7)) x5 (D ((x0 + 7)) v54)) (fun D78 => ga_ck (0 ≤ v54 ∧ v54 < 100 ∧ (-128) ≤ v63 ∧ v63 < 128) (ga_let (ga_set D78 ((x0 + 7)) v54 v63) (fun D87 => ga_let (aw_w32 (x5 + (-1))) (fun v88 => g_X33_draw_l28 n x0 v42 v88 D87 k94))))))))))))))
    refine pr_ite (fun c30 => ?_) (fun c30 => ?_)
    exact hk94 _ 
    refine pr_let (fun v42 => ?_)
    refine pr_ck (fun hz52 => ?_)
    refine pr_let (fun v54 => ?_)
    refine pr_ck (fun hk57_0 => ?_)
    refine pr_ck (fun ha62 => ?_)
    refine pr_let (fun v63 => ?_)
    refine pr_ck (fun ha77 => ?_)
    refine pr_ck (fun ha78 => ?_)
    refine pr_upd (ga_Pn (KO_30_7 hk57_0) rfl) (fun D78 => ?_)
    refine pr_ck (fun ha87 => ?_)
    refine pr_upd (ga_Pn (KO_30_7 hk57_0) rfl) (fun D87 => ?_)
    refine pr_let (fun v88 => ?_)
    exact ih _ _ _ _ 
theorem g_X33_draw_pr {x0 x1 : Int} {D : ga_D} : ga_pr D (g_X33_draw x0 x1 D) := by
  unfold g_X33_draw
  refine g_X33_draw_l2_pr (fun x0 x1 D22 => ?_) _ _ _ _ _ 
  refine g_X33_draw_l28_pr (fun D94 => ?_) _ _ _ _ _ 
  exact pr_some
theorem g_X31_lot_pr {x1 : Int} {D : ga_D} : ga_pr D (g_X31_lot x1 D) := by
  unfold g_X31_lot
  refine pr_ite (fun c6 => ?_) (fun c6 => ?_)
  exact pr_some
  refine pr_bind (g_X31_isIn_pr) (fun r14 D14 => ?_)
  refine pr_ite (fun c17 => ?_) (fun c17 => ?_)
  refine pr_ck (fun ha30 => ?_)
  refine pr_upd (ga_Pn (KE_4959 ha30.1 ha30.2) rfl) (fun D34 => ?_)
  refine pr_bind (g_X33_draw_pr) (fun r52 D52 => ?_)
  refine pr_upd (ga_Pn K_4956 rfl) (fun D63 => ?_)
  exact pr_some
  exact pr_some
theorem g_X31_isLot_pr {x1 : Int} {D : ga_D} : ga_pr D (g_X31_isLot x1 D) := by
  unfold g_X31_isLot
  refine pr_ite (fun c1 => ?_) (fun c1 => ?_)
  exact pr_some
  refine pr_ite (fun c9 => ?_) (fun c9 => ?_)
  exact pr_some
  exact pr_some
theorem g_X31_piece_pr {x1 x2 x3 : Int} {D : ga_D} : ga_pr D (g_X31_piece x1 x2 x3 D) := by
  unfold g_X31_piece
  refine pr_bind (g_X31_isLot_pr) (fun r2 D2 => ?_)
  refine pr_ite (fun c5 => ?_) (fun c5 => ?_)
  exact pr_some
  refine pr_bind (g_X31_isIn_pr) (fun r14 D14 => ?_)
  refine pr_ite (fun c17 => ?_) (fun c17 => ?_)
  exact pr_some
  refine pr_bind (g_X31_isIn_pr) (fun r25 D25 => ?_)
  refine pr_ite (fun c28 => ?_) (fun c28 => ?_)
  exact pr_some
  refine pr_ck (fun ha36 => ?_)
  refine pr_ite (fun c42 => ?_) (fun c42 => ?_)
  refine pr_ck (fun ha52 => ?_)
  refine pr_ck (fun ha66 => ?_)
  refine pr_upd (ga_Pn ((congrArg ga_K (show (8 * x1 + 4969) = (8 * x1 + 4968) + 1 by omega)).trans (KO_30_1 (KE_4959 ha52.1 ha52.2))) rfl) (fun D66 => ?_)
  refine pr_upd (ga_Pn (KE_4959 ha52.1 ha52.2) rfl) (fun D81 => ?_)
  refine pr_ck (fun ha86 => ?_)
  refine pr_upd (ga_Pn ((congrArg ga_K (show (8 * x1 + 4970) = (8 * x1 + 4968) + 2 by omega)).trans (KO_30_2 (KE_4959 ha52.1 ha52.2))) rfl) (fun D86 => ?_)
  refine pr_ck (fun ha94 => ?_)
  refine pr_ck (fun ha97 => ?_)
  refine pr_upd (ga_Pn ((congrArg ga_K (show (8 * x1 + 4971) = (8 * x1 + 4968) + 3 by omega)).trans (KO_30_3 (KE_4959 ha52.1 ha52.2))) rfl) (fun D97 => ?_)
  refine pr_upd (ga_Pn (KE_4959 ha52.1 ha52.2) rfl) (fun D106 => ?_)
  exact pr_some
  exact pr_some
theorem g_X31_isKnown_pr {x1 : Int} {D : ga_D} : ga_pr D (g_X31_isKnown x1 D) := by
  unfold g_X31_isKnown
  refine pr_bind (g_X31_isLot_pr) (fun r2 D2 => ?_)
  refine pr_ite (fun c5 => ?_) (fun c5 => ?_)
  exact pr_some
  refine pr_ck (fun ha13 => ?_)
  refine pr_ite (fun c17 => ?_) (fun c17 => ?_)
  exact pr_some
  refine pr_ck (fun ha25 => ?_)
  refine pr_ite (fun c29 => ?_) (fun c29 => ?_)
  exact pr_some
  exact pr_some
theorem g_X32_set_l6_pr  {k31 : Int → Int → Int → Int → ga_D → ga_S} (hk31 : ∀ (x0 x1 x3 x5 : Int) (D : ga_D), ga_pr D (k31 x0 x1 x3 x5 D)) : ∀ (n : Nat) (x0 x1 x3 x5 x7 : Int) (D : ga_D), ga_pr D (g_X32_set_l6 n x0 x1 x3 x5 x7 D k31) := by
  intro n
  induction n with
  | zero => intro x0 x1 x3 x5 x7 D; exact pr_none
  | succ n ih =>
    intro x0 x1 x3 x5 x7 D
    show ga_pr D (if x7 = 0 then (k31 x0 x1 x3 x5 D) else (ga_ck (x7 ≠ 0) (ga_let (Int.tmod x5 x7) (fun v18 => g_X32_set_l6 n x0 x1 x3 x7 v18 D k31))))
    refine pr_ite (fun c10 => ?_) (fun c10 => ?_)
    exact hk31 _ _ _ _ _ 
    refine pr_ck (fun hz17 => ?_)
    refine pr_let (fun v18 => ?_)
    exact ih _ _ _ _ _ _ 
theorem g_X32_set_pr {x0 x1 x3 : Int} {D : ga_D} : ga_pr D (g_X32_set x0 x1 x3 D) := by
  unfold g_X32_set
  refine g_X32_set_l6_pr (fun x0 x1 x3 x5 D31 => ?_) _ _ _ _ _ _ _ 
  refine pr_ck (fun hz35 => ?_)
  refine pr_ck (fun hk36_0 => ?_)
  refine pr_upd (ga_Pn hk36_0 rfl) (fun D36 => ?_)
  refine pr_ck (fun hz43 => ?_)
  refine pr_upd (ga_Pn hk36_0 rfl) (fun D44 => ?_)
  exact pr_some
theorem g_X31_purity_pr {x1 x2 : Int} {D : ga_D} : ga_pr D (g_X31_purity x1 x2 D) := by
  unfold g_X31_purity
  refine pr_ck (fun hk1_0 => ?_)
  refine pr_ite (fun c4 => ?_) (fun c4 => ?_)
  refine pr_ck (fun ha34 => ?_)
  refine pr_bind (g_X32_set_pr) (fun r39 D39 => ?_)
  refine pr_ck (fun hk39_0 => ?_)
  exact pr_some
  refine pr_bind (g_X32_set_pr) (fun r22 D22 => ?_)
  refine pr_ck (fun hk22_0 => ?_)
  exact pr_some
theorem g_X32_compare_pr {x0 x1 : Int} {D : ga_D} : ga_pr D (g_X32_compare x0 x1 D) := by
  unfold g_X32_compare
  refine pr_ck (fun hk1_0 => ?_)
  refine pr_ck (fun hk5_1 => ?_)
  refine pr_bind (g_J30_signum_pr) (fun r19 D19 => ?_)
  exact pr_some
theorem g_X31_stepOf_l7_pr  {k30 : Int → ga_D → ga_S} (hk30 : ∀ (x2 : Int) (D : ga_D), ga_pr D (k30 x2 D)) : ∀ (n : Nat) (x1 x2 : Int) (D : ga_D), ga_pr D (g_X31_stepOf_l7 n x1 x2 D k30) := by
  intro n
  induction n with
  | zero => intro x1 x2 D; exact pr_none
  | succ n ih =>
    intro x1 x2 D
    show ga_pr D (if x2 < 0 then (k30 x2 D) else (ga_ck (0 ≤ x2 ∧ x2 < 12) (ga_bind (g_X32_compare ((x2 + 5016)) x1 D) (fun r18 D18 => if r18 ≤ 0 then (k30 x2 D18) else (ga_let (aw_w32 (x2 + (-1))) (fun v24 => g_X31_stepOf_l7 n x1 v24 D18 k30))))))
    refine pr_ite (fun c8 => ?_) (fun c8 => ?_)
    exact hk30 _ _ 
    refine pr_ck (fun ha16 => ?_)
    refine pr_bind (g_X32_compare_pr) (fun r18 D18 => ?_)
    refine pr_ite (fun c21 => ?_) (fun c21 => ?_)
    exact hk30 _ _ 
    refine pr_let (fun v24 => ?_)
    exact ih _ _ _ 
theorem g_X31_stepOf_pr {x1 : Int} {D : ga_D} : ga_pr D (g_X31_stepOf x1 D) := by
  unfold g_X31_stepOf
  refine pr_let (fun v6 => ?_)
  refine g_X31_stepOf_l7_pr (fun x2 D30 => ?_) _ _ _ _ 
  exact pr_some
theorem g_X31_price_pr {x1 : Int} {D : ga_D} : ga_pr D (g_X31_price x1 D) := by
  unfold g_X31_price
  refine pr_bind (g_X31_isKnown_pr) (fun r2 D2 => ?_)
  refine pr_ite (fun c5 => ?_) (fun c5 => ?_)
  refine pr_ck (fun ha18 => ?_)
  refine pr_bind (g_X31_purity_pr) (fun r23 D23 => ?_)
  refine pr_bind (g_X31_stepOf_pr) (fun r31 D31 => ?_)
  refine pr_ite (fun c36 => ?_) (fun c36 => ?_)
  refine pr_ck (fun ha48 => ?_)
  refine pr_ck (fun ha55 => ?_)
  exact pr_some
  exact pr_some
  exact pr_some
theorem g_X32_part_pr {x0 x1 : Int} {D : ga_D} : ga_pr D (g_X32_part x0 x1 D) := by
  unfold g_X32_part
  refine pr_ite (fun c1 => ?_) (fun c1 => ?_)
  refine pr_ite (fun c13 => ?_) (fun c13 => ?_)
  exact pr_some
  refine pr_ck (fun hk17_0 => ?_)
  exact pr_some
  refine pr_ck (fun hk5_0 => ?_)
  exact pr_some
theorem g_X31_share_pr {x1 x2 x3 : Int} {D : ga_D} : ga_pr D (g_X31_share x1 x2 x3 D) := by
  unfold g_X31_share
  refine pr_bind (g_X31_isLot_pr) (fun r2 D2 => ?_)
  refine pr_ite (fun c5 => ?_) (fun c5 => ?_)
  exact pr_some
  refine pr_bind (g_X31_isIn_pr) (fun r14 D14 => ?_)
  refine pr_ite (fun c17 => ?_) (fun c17 => ?_)
  exact pr_some
  refine pr_ck (fun ha25 => ?_)
  refine pr_ite (fun c29 => ?_) (fun c29 => ?_)
  refine pr_ck (fun ha45 => ?_)
  refine pr_ck (fun ha50 => ?_)
  refine pr_ck (fun ha56 => ?_)
  refine pr_bind (g_X32_set_pr) (fun r60 D60 => ?_)
  refine pr_bind (g_X32_part_pr) (fun r68 D68 => ?_)
  exact pr_some
  exact pr_some
theorem g_X31_plan_pr {x1 x2 : Int} {D : ga_D} : ga_pr D (g_X31_plan x1 x2 D) := by
  unfold g_X31_plan
  refine pr_ite (fun c6 => ?_) (fun c6 => ?_)
  exact pr_some
  refine pr_bind (g_X31_isIn_pr) (fun r15 D15 => ?_)
  refine pr_ite (fun c18 => ?_) (fun c18 => ?_)
  exact pr_some
  refine pr_bind (g_X31_isIn_pr) (fun r26 D26 => ?_)
  refine pr_ite (fun c29 => ?_) (fun c29 => ?_)
  refine pr_ck (fun ha43 => ?_)
  refine pr_upd (ga_Pn K_4957 rfl) (fun D43 => ?_)
  refine pr_ck (fun ha53 => ?_)
  refine pr_upd (ga_Pn K_4958 rfl) (fun D53 => ?_)
  refine pr_upd (ga_Pn K_4956 rfl) (fun D62 => ?_)
  exact pr_some
  exact pr_some
theorem g_X31_isPlan_pr {x1 : Int} {D : ga_D} : ga_pr D (g_X31_isPlan x1 D) := by
  unfold g_X31_isPlan
  refine pr_ite (fun c1 => ?_) (fun c1 => ?_)
  exact pr_some
  refine pr_ite (fun c9 => ?_) (fun c9 => ?_)
  exact pr_some
  exact pr_some
theorem g_X31_isShare_pr {x0 x2 x4 : Int} {D : ga_D} : ga_pr D (g_X31_isShare x0 x2 x4 D) := by
  unfold g_X31_isShare
  refine pr_bind (g_X31_isIn_pr) (fun r4 D4 => ?_)
  refine pr_ite (fun c7 => ?_) (fun c7 => ?_)
  exact pr_some
  refine pr_bind (g_X31_isIn_pr) (fun r13 D13 => ?_)
  refine pr_ite (fun c16 => ?_) (fun c16 => ?_)
  exact pr_some
  exact pr_some
theorem g_X31_pass_l3_pr  {k23 : Int → Int → Int → Int → Int → ga_D → ga_S} (hk23 : ∀ (x1 x2 x3 x5 x7 : Int) (D : ga_D), ga_pr D (k23 x1 x2 x3 x5 x7 D)) : ∀ (n : Nat) (x1 x2 x3 x5 x7 x8 : Int) (D : ga_D), ga_pr D (g_X31_pass_l3 n x1 x2 x3 x5 x7 x8 D k23) := by
  intro n
  induction n with
  | zero => intro x1 x2 x3 x5 x7 x8 D; exact pr_none
  | succ n ih =>
    intro x1 x2 x3 x5 x7 x8 D
    show ga_pr D (if x2 < x8 then (k23 x1 x2 x3 x5 x7 D) else (ga_ck (0 ≤ x8 ∧ x8 < 9) (ga_let (ga_set D 4964 x8 1) (fun D16 => ga_let (aw_w32 (x8 + 1)) (fun v17 => g_X31_pass_l3 n x1 x2 x3 x5 x7 v17 D16 k23)))))
    refine pr_ite (fun c6 => ?_) (fun c6 => ?_)
    exact hk23 _ _ _ _ _ _ 
    refine pr_ck (fun ha16 => ?_)
    refine pr_upd (ga_Pn K_4964 rfl) (fun D16 => ?_)
    refine pr_let (fun v17 => ?_)
    exact ih _ _ _ _ _ _ _ 
theorem g_X31_pass_l38_pr  {k89 : Int → Int → Int → Int → Int → Int → Int → ga_D → ga_S} (hk89 : ∀ (x1 x2 x3 x5 x7 x8 x10 : Int) (D : ga_D), ga_pr D (k89 x1 x2 x3 x5 x7 x8 x10 D)) : ∀ (n : Nat) (x1 x2 x3 x5 x7 x8 x10 x11 : Int) (D : ga_D), ga_pr D (g_X31_pass_l38 n x1 x2 x3 x5 x7 x8 x10 x11 D k89) := by
  intro n
  induction n with
  | zero => intro x1 x2 x3 x5 x7 x8 x10 x11 D; exact pr_none
  | succ n ih =>
    intro x1 x2 x3 x5 x7 x8 x10 x11 D
    show ga_pr D (if x11 < 0 then (k89 x1 x2 x3 x5 x7 x8 x10 D) else (ga_ck (0 ≤ x11 ∧ x11 < 9) (if x11 ≤ 0 then (ga_ck (0 ≤ x11 ∧ x11 < 9) (ga_let (ga_set D 4964 x11 (aw_w64 ((aw_w64 ((D 4964 x11) * (aw_w64 (x5 - x3)))) + 0))) (fun D82 => ga_let (aw_w32 (x11 + (-1))) (fun v83 => g_X31_pass_l38 n x1 x2 x3 x5 x7 x8 x10 v83 D82 k89)))) else (ga_ck (0 ≤ aw_w32 (x11 - 1) ∧ aw_w32 (x11 - 1) < 9) (ga_ck (0 ≤ x11 ∧ x11 < 9) (ga_let (ga_set D 4964 x11 (aw_w64 ((aw_w64 ((D 4964 x11) * (aw_w64 (x5 - x3)))) + (aw_w64 ((D 4964 (aw_w32 (x11 - 1))) * x3))))) (fun D82 => ga_let (aw_w32 (x11 + (-1))) (fun v83 => g_X31_pass_l38 n x1 x2 x3 x5 x7 x8 x10 v83 D82 k89))))))))
    refine pr_ite (fun c40 => ?_) (fun c40 => ?_)
    exact hk89 _ _ _ _ _ _ _ _ 
    refine pr_ck (fun ha55 => ?_)
    refine pr_ite (fun c63 => ?_) (fun c63 => ?_)
    refine pr_ck (fun ha82 => ?_)
    refine pr_upd (ga_Pn K_4964 rfl) (fun D82 => ?_)
    refine pr_let (fun v83 => ?_)
    exact ih _ _ _ _ _ _ _ _ _ 
    refine pr_ck (fun ha74 => ?_)
    refine pr_ck (fun ha82 => ?_)
    refine pr_upd (ga_Pn K_4964 rfl) (fun D82 => ?_)
    refine pr_let (fun v83 => ?_)
    exact ih _ _ _ _ _ _ _ _ _ 
theorem g_X31_pass_l29_pr  {k102 : Int → Int → Int → ga_D → ga_S} (hk102 : ∀ (x2 x7 x8 : Int) (D : ga_D), ga_pr D (k102 x2 x7 x8 D)) : ∀ (n : Nat) (x1 x2 x3 x5 x7 x8 x10 : Int) (D : ga_D), ga_pr D (g_X31_pass_l29 n x1 x2 x3 x5 x7 x8 x10 D k102) := by
  intro n
  induction n with
  | zero => intro x1 x2 x3 x5 x7 x8 x10 D; exact pr_none
  | succ n ih =>
    intro x1 x2 x3 x5 x7 x8 x10 D
    show ga_pr D (if x1 ≤ x10 then (k102 x2 x7 x8 D) else (g_X31_pass_l38 aw_fu x1 x2 x3 x5 x7 x8 x10 x2 D (fun x1 x2 x3 x5 x7 x8 x10 D89 => ga_let (aw_w64 (x8 * x5)) (fun v94 => ga_let (aw_w32 (x10 + 1)) (fun v96 => g_X31_pass_l29 n x1 x2 x3 x5 x7 v94 v96 D89 k102)))))
    refine pr_ite (fun c32 => ?_) (fun c32 => ?_)
    exact hk102 _ _ _ _ 
    refine g_X31_pass_l38_pr (fun x1 x2 x3 x5 x7 x8 x10 D89 => ?_) _ _ _ _ _ _ _ _ _ _ 
    refine pr_let (fun v94 => ?_)
    refine pr_let (fun v96 => ?_)
    exact ih _ _ _ _ _ _ _ _ 
theorem g_X31_pass_pr {x1 x2 x3 x5 x7 : Int} {D : ga_D} : ga_pr D (g_X31_pass x1 x2 x3 x5 x7 D) := by
  unfold g_X31_pass
  refine g_X31_pass_l3_pr (fun x1 x2 x3 x5 x7 D23 => ?_) _ _ _ _ _ _ _ _ 
  refine g_X31_pass_l29_pr (fun x2 x7 x8 D102 => ?_) _ _ _ _ _ _ _ _ _ 
  refine pr_ck (fun ha109 => ?_)
  refine pr_bind (g_X32_set_pr) (fun r112 D112 => ?_)
  refine pr_ck (fun hk112_0 => ?_)
  exact pr_some
theorem g_X31_odds_pr {x1 x2 x4 x6 : Int} {D : ga_D} : ga_pr D (g_X31_odds x1 x2 x4 x6 D) := by
  unfold g_X31_odds
  refine pr_bind (g_X31_isPlan_pr) (fun r2 D2 => ?_)
  refine pr_ite (fun c5 => ?_) (fun c5 => ?_)
  exact pr_some
  refine pr_bind (g_X31_isShare_pr) (fun r14 D14 => ?_)
  refine pr_ite (fun c17 => ?_) (fun c17 => ?_)
  refine pr_ck (fun ha30 => ?_)
  refine pr_ck (fun ha36 => ?_)
  refine pr_bind (g_X31_pass_pr) (fun r44 D44 => ?_)
  refine pr_bind (g_X32_part_pr) (fun r53 D53 => ?_)
  exact pr_some
  exact pr_some
theorem g_X31_riskOf_j15_pr  (x1 x2 x3 x4 s0 : Int) (D : ga_D) : ga_pr D (g_X31_riskOf_j15 x1 x2 x3 x4 s0 D) := by
  unfold g_X31_riskOf_j15
  refine pr_ck (fun hk22_0 => ?_)
  refine pr_bind (g_X31_pass_pr) (fun r32 D32 => ?_)
  refine pr_ite (fun c36 => ?_) (fun c36 => ?_)
  exact pr_some
  refine pr_ck (fun hk43_0 => ?_)
  refine pr_upd (ga_Pn hk43_0 rfl) (fun D52 => ?_)
  refine pr_bind (g_X32_set_pr) (fun r67 D67 => ?_)
  exact pr_some
theorem g_X31_riskOf_pr {x1 x2 x3 x4 : Int} {D : ga_D} : ga_pr D (g_X31_riskOf x1 x2 x3 x4 D) := by
  unfold g_X31_riskOf
  refine pr_ite (fun c1 => ?_) (fun c1 => ?_)
  refine g_X31_riskOf_j15_pr _ _ _ _ _ _ 
  refine g_X31_riskOf_j15_pr _ _ _ _ _ _ 
theorem g_X31_best_j182_pr  {k105 : Int → Int → Int → Int → Int → ga_D → ga_S} (hk105 : ∀ (x1 x10 x11 x12 x13 : Int) (D : ga_D), ga_pr D (k105 x1 x10 x11 x12 x13 D)) (x1 x12 x13 x14 : Int) (D : ga_D) : ga_pr D (g_X31_best_j182 x1 x12 x13 x14 D k105) := by
  unfold g_X31_best_j182
  refine pr_ck (fun hk188_0 => ?_)
  refine pr_bind (g_X32_set_pr) (fun r196 D196 => ?_)
  refine pr_let (fun v207 => ?_)
  exact hk105 _ _ _ _ _ _ 
theorem g_X31_best_j163_pr  {k105 : Int → Int → Int → Int → Int → ga_D → ga_S} (hk105 : ∀ (x1 x10 x11 x12 x13 : Int) (D : ga_D), ga_pr D (k105 x1 x10 x11 x12 x13 D)) (x1 x10 x11 x12 x13 s0 : Int) (D : ga_D) : ga_pr D (g_X31_best_j163 x1 x10 x11 x12 x13 s0 D k105) := by
  unfold g_X31_best_j163
  refine pr_ite (fun c167 => ?_) (fun c167 => ?_)
  refine g_X31_best_j182_pr (fun x1 x10 x11 x12 x13 D105 => ?_) _ _ _ _ _ 
  exact hk105 _ _ _ _ _ _ 
  refine pr_bind (g_X32_compare_pr) (fun r176 D176 => ?_)
  refine pr_ck (fun hk176_0 => ?_)
  refine pr_ite (fun c179 => ?_) (fun c179 => ?_)
  refine pr_let (fun v207 => ?_)
  exact hk105 _ _ _ _ _ _ 
  refine g_X31_best_j182_pr (fun x1 x10 x11 x12 x13 D105 => ?_) _ _ _ _ _ 
  exact hk105 _ _ _ _ _ _ 
theorem g_X31_best_l105_pr  {k213 : Int → Int → Int → Int → ga_D → ga_S} (hk213 : ∀ (x1 x10 x11 x12 : Int) (D : ga_D), ga_pr D (k213 x1 x10 x11 x12 D)) : ∀ (n : Nat) (x1 x10 x11 x12 x13 : Int) (D : ga_D), ga_pr D (g_X31_best_l105 n x1 x10 x11 x12 x13 D k213) := by
  intro n
  induction n with
  | zero => intro x1 x10 x11 x12 x13 D; exact pr_none
  | succ n ih =>
    intro x1 x10 x11 x12 x13 D
    show ga_pr D (if x12 < x13 then (k213 x1 x10 x11 x12 D) else (ga_bind (g_X31_riskOf x12 x13 0 4965 D) (fun r122 D122 => ga_bind (g_X31_riskOf x12 x13 1 4966 D122) (fun r135 D135 => ga_bind (g_X32_compare 4965 4966 D135) (fun r146 D146 => if 0 ≤ r146 then (g_X31_best_j163 x1 x10 x11 x12 x13 4965 D146 (fun x1 x10 x11 x12 x13 D105 => g_X31_best_l105 n x1 x10 x11 x12 x13 D105 k213)) else (g_X31_best_j163 x1 x10 x11 x12 x13 4966 D146 (fun x1 x10 x11 x12 x13 D105 => g_X31_best_l105 n x1 x10 x11 x12 x13 D105 k213)))))))
    refine pr_ite (fun c109 => ?_) (fun c109 => ?_)
    exact hk213 _ _ _ _ _ 
    refine pr_bind (g_X31_riskOf_pr) (fun r122 D122 => ?_)
    refine pr_bind (g_X31_riskOf_pr) (fun r135 D135 => ?_)
    refine pr_bind (g_X32_compare_pr) (fun r146 D146 => ?_)
    refine pr_ite (fun c149 => ?_) (fun c149 => ?_)
    refine g_X31_best_j163_pr (fun x1 x10 x11 x12 x13 D105 => ?_) _ _ _ _ _ _ _ 
    exact ih _ _ _ _ _ _ 
    refine g_X31_best_j163_pr (fun x1 x10 x11 x12 x13 D105 => ?_) _ _ _ _ _ _ _ 
    exact ih _ _ _ _ _ _ 
theorem g_X31_best_l96_pr  {k219 : Int → Int → ga_D → ga_S} (hk219 : ∀ (x10 x11 : Int) (D : ga_D), ga_pr D (k219 x10 x11 D)) : ∀ (n : Nat) (x1 x10 x11 x12 : Int) (D : ga_D), ga_pr D (g_X31_best_l96 n x1 x10 x11 x12 D k219) := by
  intro n
  induction n with
  | zero => intro x1 x10 x11 x12 D; exact pr_none
  | succ n ih =>
    intro x1 x10 x11 x12 D
    show ga_pr D (if x1 < x12 then (k219 x10 x11 D) else (g_X31_best_l105 aw_fu x1 x10 x11 x12 0 D (fun x1 x10 x11 x12 D213 => ga_let (aw_w32 (x12 + 1)) (fun v213 => g_X31_best_l96 n x1 x10 x11 v213 D213 k219))))
    refine pr_ite (fun c99 => ?_) (fun c99 => ?_)
    exact hk219 _ _ _ 
    refine g_X31_best_l105_pr (fun x1 x10 x11 x12 D213 => ?_) _ _ _ _ _ _ _ 
    refine pr_let (fun v213 => ?_)
    exact ih _ _ _ _ _ 
theorem g_X31_best_pr {x1 x2 x4 x6 x8 : Int} {D : ga_D} : ga_pr D (g_X31_best x1 x2 x4 x6 x8 D) := by
  unfold g_X31_best
  refine pr_ite (fun c6 => ?_) (fun c6 => ?_)
  exact pr_some
  refine pr_bind (g_X31_isIn_pr) (fun r15 D15 => ?_)
  refine pr_ite (fun c18 => ?_) (fun c18 => ?_)
  exact pr_some
  refine pr_bind (g_X31_isShare_pr) (fun r27 D27 => ?_)
  refine pr_ite (fun c30 => ?_) (fun c30 => ?_)
  exact pr_some
  refine pr_bind (g_X31_isShare_pr) (fun r40 D40 => ?_)
  refine pr_ite (fun c43 => ?_) (fun c43 => ?_)
  exact pr_some
  refine pr_ite (fun c56 => ?_) (fun c56 => ?_)
  refine pr_bind (g_X32_set_pr) (fun r68 D68 => ?_)
  refine pr_bind (g_X32_set_pr) (fun r79 D79 => ?_)
  refine pr_upd (ga_Pn K_4956 rfl) (fun D84 => ?_)
  refine g_X31_best_l96_pr (fun x10 x11 D219 => ?_) _ _ _ _ _ _ 
  refine pr_bind (g_X31_plan_pr) (fun r224 D224 => ?_)
  exact pr_some
  exact pr_some
theorem g_X31_risk_pr {x1 x2 x3 : Int} {D : ga_D} : ga_pr D (g_X31_risk x1 x2 x3 D) := by
  unfold g_X31_risk
  refine pr_bind (g_X31_isPlan_pr) (fun r2 D2 => ?_)
  refine pr_ite (fun c5 => ?_) (fun c5 => ?_)
  exact pr_some
  refine pr_ite (fun c12 => ?_) (fun c12 => ?_)
  exact pr_some
  refine pr_bind (g_X31_isIn_pr) (fun r19 D19 => ?_)
  refine pr_ite (fun c22 => ?_) (fun c22 => ?_)
  refine pr_ck (fun ha35 => ?_)
  refine pr_ck (fun ha41 => ?_)
  refine pr_bind (g_X31_riskOf_pr) (fun r47 D47 => ?_)
  refine pr_bind (g_X32_part_pr) (fun r55 D55 => ?_)
  exact pr_some
  exact pr_some
theorem g_X31_repeats_l34_pr  {k74 : Int → Int → Int → Int → ga_D → ga_S} (hk74 : ∀ (x2 x3 x4 x5 : Int) (D : ga_D), ga_pr D (k74 x2 x3 x4 x5 D)) : ∀ (n : Nat) (x2 x3 x4 x5 : Int) (D : ga_D), ga_pr D (g_X31_repeats_l34 n x2 x3 x4 x5 D k74) := by
  intro n
  induction n with
  | zero => intro x2 x3 x4 x5 D; exact pr_none
  | succ n ih =>
    intro x2 x3 x4 x5 D
    show ga_pr D (ga_ck (ga_K x2 = (30, 0)) (ga_ck (0 ≤ x5 ∧ x5 < 30) (ga_ck (0 ≤ x4 ∧ x4 < 30) (if D ((x2 + 1)) x5 ≠ D ((x2 + 1)) x4 then (ga_let (aw_w32 (x5 + 1)) (fun v68 => g_X31_repeats_l34 n x2 x3 x4 v68 D k74)) else (ga_ck (0 ≤ x5 ∧ x5 < 30) (ga_ck (0 ≤ x4 ∧ x4 < 30) (if D ((x2 + 2)) x5 = D ((x2 + 2)) x4 then (k74 x2 x3 x4 x5 D) else (ga_let (aw_w32 (x5 + 1)) (fun v68 => g_X31_repeats_l34 n x2 x3 x4 v68 D k74)))))))))
    refine pr_ck (fun hk35_0 => ?_)
    refine pr_ck (fun ha40 => ?_)
    refine pr_ck (fun ha47 => ?_)
    refine pr_ite (fun c48 => ?_) (fun c48 => ?_)
    refine pr_let (fun v68 => ?_)
    exact ih _ _ _ _ _ 
    refine pr_ck (fun ha57 => ?_)
    refine pr_ck (fun ha64 => ?_)
    refine pr_ite (fun c65 => ?_) (fun c65 => ?_)
    exact hk74 _ _ _ _ _ 
    refine pr_let (fun v68 => ?_)
    exact ih _ _ _ _ _ 
theorem g_X31_repeats_l22_pr  {k95 : Int → ga_D → ga_S} (hk95 : ∀ (x3 : Int) (D : ga_D), ga_pr D (k95 x3 D)) : ∀ (n : Nat) (x2 x3 x4 : Int) (D : ga_D), ga_pr D (g_X31_repeats_l22 n x2 x3 x4 D k95) := by
  intro n
  induction n with
  | zero => intro x2 x3 x4 D; exact pr_none
  | succ n ih =>
    intro x2 x3 x4 D
    show ga_pr D (ga_ck (ga_K x2 = (30, 0)) (if D x2 3 ≤ x4 then (k95 x3 D) else (g_X31_repeats_l34 aw_fu x2 x3 x4 0 D (fun x2 x3 x4 x5 D74 => if x4 ≤ x5 then (ga_let (aw_w32 (x3 + 0)) (fun v88 => ga_let (aw_w32 (x4 + 1)) (fun v89 => g_X31_repeats_l22 n x2 v88 v89 D74 k95))) else (ga_let (aw_w32 (x3 + 1)) (fun v88 => ga_let (aw_w32 (x4 + 1)) (fun v89 => g_X31_repeats_l22 n x2 v88 v89 D74 k95)))))))
    refine pr_ck (fun hk25_0 => ?_)
    refine pr_ite (fun c28 => ?_) (fun c28 => ?_)
    exact hk95 _ _ 
    refine g_X31_repeats_l34_pr (fun x2 x3 x4 x5 D74 => ?_) _ _ _ _ _ _ 
    refine pr_ite (fun c79 => ?_) (fun c79 => ?_)
    refine pr_let (fun v88 => ?_)
    refine pr_let (fun v89 => ?_)
    exact ih _ _ _ _ 
    refine pr_let (fun v88 => ?_)
    refine pr_let (fun v89 => ?_)
    exact ih _ _ _ _ 
theorem g_X31_repeats_pr {x1 : Int} {D : ga_D} : ga_pr D (g_X31_repeats x1 D) := by
  unfold g_X31_repeats
  refine pr_bind (g_X31_isLot_pr) (fun r2 D2 => ?_)
  refine pr_ite (fun c5 => ?_) (fun c5 => ?_)
  refine pr_ck (fun ha15 => ?_)
  refine g_X31_repeats_l22_pr (fun x3 D95 => ?_) _ _ _ _ _ 
  exact pr_some
  exact pr_some
theorem g_X31_step_j73_pr  (x1 x3 x5 : Int) (D : ga_D) : ga_pr D (g_X31_step_j73 x1 x3 x5 D) := by
  unfold g_X31_step_j73
  refine pr_ck (fun ha81 => ?_)
  refine pr_bind (g_X32_set_pr) (fun r84 D84 => ?_)
  refine pr_upd (ga_Pn K_4956 rfl) (fun D99 => ?_)
  refine pr_ck (fun ha105 => ?_)
  refine pr_upd (ga_Pn K_4961 rfl) (fun D105 => ?_)
  exact pr_some
theorem g_X31_step_pr {x1 x3 x5 : Int} {D : ga_D} : ga_pr D (g_X31_step x1 x3 x5 D) := by
  unfold g_X31_step
  refine pr_bind (g_X31_isShare_pr) (fun r5 D5 => ?_)
  refine pr_ite (fun c8 => ?_) (fun c8 => ?_)
  exact pr_some
  refine pr_bind (g_X31_isIn_pr) (fun r17 D17 => ?_)
  refine pr_ite (fun c20 => ?_) (fun c20 => ?_)
  exact pr_some
  refine pr_ite (fun c29 => ?_) (fun c29 => ?_)
  refine pr_bind (g_X32_set_pr) (fun r40 D40 => ?_)
  refine pr_ite (fun c47 => ?_) (fun c47 => ?_)
  refine g_X31_step_j73_pr _ _ _ _ 
  refine pr_ck (fun ha64 => ?_)
  refine pr_bind (g_X32_compare_pr) (fun r65 D65 => ?_)
  refine pr_ite (fun c68 => ?_) (fun c68 => ?_)
  refine g_X31_step_j73_pr _ _ _ _ 
  exact pr_some
  exact pr_some
theorem g_X31_third_pr {x1 x2 x4 : Int} {D : ga_D} : ga_pr D (g_X31_third x1 x2 x4 D) := by
  unfold g_X31_third
  refine pr_bind (g_X31_isLot_pr) (fun r2 D2 => ?_)
  refine pr_ite (fun c5 => ?_) (fun c5 => ?_)
  exact pr_some
  refine pr_ck (fun ha13 => ?_)
  refine pr_ite (fun c17 => ?_) (fun c17 => ?_)
  exact pr_some
  refine pr_bind (g_X31_isShare_pr) (fun r26 D26 => ?_)
  refine pr_ite (fun c29 => ?_) (fun c29 => ?_)
  refine pr_ck (fun ha39 => ?_)
  refine pr_ck (fun ha52 => ?_)
  refine pr_bind (g_X32_set_pr) (fun r58 D58 => ?_)
  refine pr_bind (g_X31_stepOf_pr) (fun r66 D66 => ?_)
  refine pr_upd (ga_Pn (KE_4959 ha39.1 ha39.2) rfl) (fun D74 => ?_)
  refine pr_bind (g_X32_set_pr) (fun r85 D85 => ?_)
  refine pr_bind (g_X31_stepOf_pr) (fun r94 D94 => ?_)
  refine pr_ite (fun c99 => ?_) (fun c99 => ?_)
  exact pr_some
  exact pr_some
  exact pr_some
theorem g_X31_place_pr {x1 x2 : Int} {D : ga_D} : ga_pr D (g_X31_place x1 x2 D) := by
  unfold g_X31_place
  refine pr_bind (g_X31_isLot_pr) (fun r2 D2 => ?_)
  refine pr_ite (fun c5 => ?_) (fun c5 => ?_)
  exact pr_some
  refine pr_bind (g_X31_isIn_pr) (fun r14 D14 => ?_)
  refine pr_ite (fun c17 => ?_) (fun c17 => ?_)
  exact pr_some
  refine pr_ck (fun ha25 => ?_)
  refine pr_ck (fun ha30 => ?_)
  exact pr_some
theorem g_X31_dry_j100_pr  (x2 x4 x6 : Int) (D : ga_D) : ga_pr D (g_X31_dry_j100 x2 x4 x6 D) := by
  unfold g_X31_dry_j100
  refine pr_ck (fun hk102_0 => ?_)
  refine pr_ck (fun ha112 => ?_)
  refine pr_upd (ga_Pn (KO_30_5 hk102_0) rfl) (fun D112 => ?_)
  refine pr_upd (ga_Pn hk102_0 rfl) (fun D127 => ?_)
  refine pr_ck (fun ha133 => ?_)
  refine pr_upd (ga_Pn (KO_30_6 hk102_0) rfl) (fun D133 => ?_)
  exact pr_some
theorem g_X31_dry_pr {x1 x2 x4 : Int} {D : ga_D} : ga_pr D (g_X31_dry x1 x2 x4 D) := by
  unfold g_X31_dry
  refine pr_bind (g_X31_isLot_pr) (fun r2 D2 => ?_)
  refine pr_ite (fun c5 => ?_) (fun c5 => ?_)
  exact pr_some
  refine pr_bind (g_X31_isIn_pr) (fun r13 D13 => ?_)
  refine pr_ite (fun c16 => ?_) (fun c16 => ?_)
  exact pr_some
  refine pr_bind (g_X31_isIn_pr) (fun r25 D25 => ?_)
  refine pr_ite (fun c28 => ?_) (fun c28 => ?_)
  refine pr_ck (fun ha38 => ?_)
  refine pr_ite (fun c48 => ?_) (fun c48 => ?_)
  exact pr_some
  refine pr_ite (fun c56 => ?_) (fun c56 => ?_)
  refine g_X31_dry_j100_pr _ _ _ _ 
  refine pr_ck (fun ha72 => ?_)
  refine pr_ite (fun c75 => ?_) (fun c75 => ?_)
  exact pr_some
  refine pr_ck (fun ha92 => ?_)
  refine pr_ite (fun c95 => ?_) (fun c95 => ?_)
  refine g_X31_dry_j100_pr _ _ _ _ 
  exact pr_some
  exact pr_some
theorem g_X33_isDry_pr {x0 : Int} {D : ga_D} : ga_pr D (g_X33_isDry x0 D) := by
  unfold g_X33_isDry
  refine pr_ck (fun hk1_0 => ?_)
  refine pr_ite (fun c5 => ?_) (fun c5 => ?_)
  exact pr_some
  refine pr_ck (fun ha18 => ?_)
  refine pr_ck (fun ha29 => ?_)
  refine pr_ite (fun c30 => ?_) (fun c30 => ?_)
  exact pr_some
  exact pr_some
theorem g_X31_moisture_pr {x1 x2 : Int} {D : ga_D} : ga_pr D (g_X31_moisture x1 x2 D) := by
  unfold g_X31_moisture
  refine pr_bind (g_X31_isLot_pr) (fun r2 D2 => ?_)
  refine pr_ite (fun c5 => ?_) (fun c5 => ?_)
  exact pr_some
  refine pr_ck (fun ha13 => ?_)
  refine pr_bind (g_X33_isDry_pr) (fun r14 D14 => ?_)
  refine pr_ite (fun c17 => ?_) (fun c17 => ?_)
  refine pr_ck (fun ha29 => ?_)
  refine pr_ck (fun ha40 => ?_)
  refine pr_ck (fun ha51 => ?_)
  refine pr_ck (fun ha59 => ?_)
  refine pr_bind (g_X32_set_pr) (fun r61 D61 => ?_)
  refine pr_bind (g_X32_part_pr) (fun r69 D69 => ?_)
  exact pr_some
  exact pr_some
theorem g_X31_trend_pr {x1 : Int} {D : ga_D} : ga_pr D (g_X31_trend x1 D) := by
  unfold g_X31_trend
  refine pr_bind (g_X31_isKnown_pr) (fun r2 D2 => ?_)
  refine pr_ite (fun c5 => ?_) (fun c5 => ?_)
  exact pr_some
  refine pr_bind (g_X31_isKnown_pr) (fun r12 D12 => ?_)
  refine pr_ite (fun c15 => ?_) (fun c15 => ?_)
  refine pr_ck (fun ha26 => ?_)
  refine pr_bind (g_X31_purity_pr) (fun r31 D31 => ?_)
  refine pr_ck (fun ha42 => ?_)
  refine pr_bind (g_X31_purity_pr) (fun r47 D47 => ?_)
  refine pr_bind (g_X32_compare_pr) (fun r58 D58 => ?_)
  refine pr_ite (fun c63 => ?_) (fun c63 => ?_)
  exact pr_some
  exact pr_some
  exact pr_some
