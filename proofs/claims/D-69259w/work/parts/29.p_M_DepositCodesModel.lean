theorem g_X57_isIn_pr {x0 x2 : Int} {D : ga_D} : ga_pr D (g_X57_isIn x0 x2 D) := by
  unfold g_X57_isIn
  refine pr_ite (fun c3 => ?_) (fun c3 => ?_)
  exact pr_some
  refine pr_ite (fun c9 => ?_) (fun c9 => ?_)
  exact pr_some
  exact pr_some
theorem g_X57_isMachine_pr {x1 : Int} {D : ga_D} : ga_pr D (g_X57_isMachine x1 D) := by
  unfold g_X57_isMachine
  refine pr_upd (ga_Pn K_5304 rfl) (fun D2 => ?_)
  refine pr_ite (fun c6 => ?_) (fun c6 => ?_)
  exact pr_some
  refine pr_ite (fun c14 => ?_) (fun c14 => ?_)
  exact pr_some
  exact pr_some
theorem g_X57_checkOf_j73_pr  {k8 : Int → Int → Int → Int → ga_D → ga_S} (hk8 : ∀ (x0 x3 x4 x5 : Int) (D : ga_D), ga_pr D (k8 x0 x3 x4 x5 D)) (x0 x4 x5 s0 s1 : Int) (D : ga_D) : ga_pr D (g_X57_checkOf_j73 x0 x4 x5 s0 s1 D k8) := by
  unfold g_X57_checkOf_j73
  refine pr_let (fun v74 => ?_)
  refine pr_ite (fun c77 => ?_) (fun c77 => ?_)
  refine pr_let (fun v93 => ?_)
  exact hk8 _ _ _ _ _ 
  refine pr_let (fun v93 => ?_)
  exact hk8 _ _ _ _ _ 
theorem g_X57_checkOf_j47_pr  {k8 : Int → Int → Int → Int → ga_D → ga_S} (hk8 : ∀ (x0 x3 x4 x5 : Int) (D : ga_D), ga_pr D (k8 x0 x3 x4 x5 D)) (x0 x3 x4 x5 x7 s0 : Int) (D : ga_D) : ga_pr D (g_X57_checkOf_j47 x0 x3 x4 x5 x7 s0 D k8) := by
  unfold g_X57_checkOf_j47
  refine pr_ite (fun c52 => ?_) (fun c52 => ?_)
  refine pr_ite (fun c61 => ?_) (fun c61 => ?_)
  refine g_X57_checkOf_j73_pr (fun x0 x3 x4 x5 D8 => ?_) _ _ _ _ _ _ 
  exact hk8 _ _ _ _ _ 
  refine g_X57_checkOf_j73_pr (fun x0 x3 x4 x5 D8 => ?_) _ _ _ _ _ _ 
  exact hk8 _ _ _ _ _ 
  refine g_X57_checkOf_j73_pr (fun x0 x3 x4 x5 D8 => ?_) _ _ _ _ _ _ 
  exact hk8 _ _ _ _ _ 
theorem g_X57_checkOf_l8_pr  {k98 : Int → ga_D → ga_S} (hk98 : ∀ (x3 : Int) (D : ga_D), ga_pr D (k98 x3 D)) : ∀ (n : Nat) (x0 x3 x4 x5 : Int) (D : ga_D), ga_pr D (g_X57_checkOf_l8 n x0 x3 x4 x5 D k98) := by
  intro n
  induction n with
  | zero => intro x0 x3 x4 x5 D; exact pr_none
  | succ n ih =>
    intro x0 x3 x4 x5 D
    show ga_pr D (if x5 ≤ 0 then (k98 x3 D) else (ga_let (aw_w32 (Int.tmod x5 10)) (fun v22 => if aw_w32 (2 * v22) ≤ 9 then (g_X57_checkOf_j47 x0 x3 x4 x5 v22 (aw_w32 (2 * v22)) D (fun x0 x3 x4 x5 D8 => g_X57_checkOf_l8 n x0 x3 x4 x5 D8 k98)) else (g_X57_checkOf_j47 x0 x3 x4 x5 v22 (aw_w32 ((aw_w32 (2 * v22)) - 9)) D (fun x0 x3 x4 x5 D8 => g_X57_checkOf_l8 n x0 x3 x4 x5 D8 k98)))))
    refine pr_ite (fun c12 => ?_) (fun c12 => ?_)
    exact hk98 _ _ 
    refine pr_let (fun v22 => ?_)
    refine pr_ite (fun c30 => ?_) (fun c30 => ?_)
    refine g_X57_checkOf_j47_pr (fun x0 x3 x4 x5 D8 => ?_) _ _ _ _ _ _ _ 
    exact ih _ _ _ _ _ 
    refine g_X57_checkOf_j47_pr (fun x0 x3 x4 x5 D8 => ?_) _ _ _ _ _ _ _ 
    exact ih _ _ _ _ _ 
theorem g_X57_checkOf_pr {x0 x1 : Int} {D : ga_D} : ga_pr D (g_X57_checkOf x0 x1 D) := by
  unfold g_X57_checkOf
  refine g_X57_checkOf_l8_pr (fun x3 D98 => ?_) _ _ _ _ _ _ 
  exact pr_some
theorem g_X57_payingOf_l6_pr  {k68 : Int → ga_D → ga_S} (hk68 : ∀ (x4 : Int) (D : ga_D), ga_pr D (k68 x4 D)) : ∀ (n : Nat) (x1 x3 x4 x5 : Int) (D : ga_D), ga_pr D (g_X57_payingOf_l6 n x1 x3 x4 x5 D k68) := by
  intro n
  induction n with
  | zero => intro x1 x3 x4 x5 D; exact pr_none
  | succ n ih =>
    intro x1 x3 x4 x5 D
    show ga_pr D (if D 5304 16 ≤ x5 then (k68 x4 D) else (ga_ck (0 ≤ x5 ∧ x5 < 200) (if D 5316 x5 = 0 then (ga_let (aw_w32 (x5 + 1)) (fun v62 => g_X57_payingOf_l6 n x1 x3 x4 v62 D k68)) else (ga_ck (0 ≤ x5 ∧ x5 < 200) (if D 5312 x5 ≠ x1 then (ga_let (aw_w32 (x5 + 1)) (fun v62 => g_X57_payingOf_l6 n x1 x3 x4 v62 D k68)) else (ga_ck (0 ≤ x5 ∧ x5 < 200) (ga_ck (0 ≤ D 5313 x5 ∧ D 5313 x5 < 6) (if D 5307 (D 5313 x5) ≠ x3 then (ga_let (aw_w32 (x5 + 1)) (fun v62 => g_X57_payingOf_l6 n x1 x3 x4 v62 D k68)) else (ga_let (aw_w32 (x5 + 1)) (fun v62 => g_X57_payingOf_l6 n x1 x3 x5 v62 D k68))))))))))
    refine pr_ite (fun c12 => ?_) (fun c12 => ?_)
    exact hk68 _ _ 
    refine pr_ck (fun ha21 => ?_)
    refine pr_ite (fun c22 => ?_) (fun c22 => ?_)
    refine pr_let (fun v62 => ?_)
    exact ih _ _ _ _ _ 
    refine pr_ck (fun ha31 => ?_)
    refine pr_ite (fun c34 => ?_) (fun c34 => ?_)
    refine pr_let (fun v62 => ?_)
    exact ih _ _ _ _ _ 
    refine pr_ck (fun ha47 => ?_)
    refine pr_ck (fun ha48 => ?_)
    refine pr_ite (fun c50 => ?_) (fun c50 => ?_)
    refine pr_let (fun v62 => ?_)
    exact ih _ _ _ _ _ 
    refine pr_let (fun v62 => ?_)
    exact ih _ _ _ _ _ 
theorem g_X57_payingOf_pr {x1 x3 : Int} {D : ga_D} : ga_pr D (g_X57_payingOf x1 x3 D) := by
  unfold g_X57_payingOf
  refine g_X57_payingOf_l6_pr (fun x4 D68 => ?_) _ _ _ _ _ _ 
  exact pr_some
theorem g_X57_reasonFor_pr {x1 x2 x4 x5 : Int} {D : ga_D} : ga_pr D (g_X57_reasonFor x1 x2 x4 x5 D) := by
  unfold g_X57_reasonFor
  refine pr_bind (g_X57_isMachine_pr) (fun r2 D2 => ?_)
  refine pr_ite (fun c5 => ?_) (fun c5 => ?_)
  refine pr_ck (fun ha15 => ?_)
  refine pr_ite (fun c16 => ?_) (fun c16 => ?_)
  refine pr_ck (fun ha26 => ?_)
  refine pr_ite (fun c27 => ?_) (fun c27 => ?_)
  refine pr_bind (g_X57_isIn_pr) (fun r38 D38 => ?_)
  refine pr_ite (fun c41 => ?_) (fun c41 => ?_)
  exact pr_some
  refine pr_ck (fun ha50 => ?_)
  refine pr_ite (fun c52 => ?_) (fun c52 => ?_)
  refine pr_ck (fun ha65 => ?_)
  refine pr_ite (fun c66 => ?_) (fun c66 => ?_)
  exact pr_some
  refine pr_ck (fun ha77 => ?_)
  refine pr_ite (fun c78 => ?_) (fun c78 => ?_)
  refine pr_bind (g_X57_checkOf_pr) (fun r94 D94 => ?_)
  refine pr_ite (fun c99 => ?_) (fun c99 => ?_)
  refine pr_ck (fun ha112 => ?_)
  refine pr_bind (g_X57_payingOf_pr) (fun r113 D113 => ?_)
  refine pr_ite (fun c116 => ?_) (fun c116 => ?_)
  exact pr_some
  exact pr_some
  exact pr_some
  exact pr_some
  exact pr_some
  exact pr_some
  exact pr_some
  exact pr_some
theorem g_X57_refuse_l3_pr  {k30 : Int → Int → Int → ga_D → ga_S} (hk30 : ∀ (x1 x2 x4 : Int) (D : ga_D), ga_pr D (k30 x1 x2 x4 D)) : ∀ (n : Nat) (x1 x2 x4 : Int) (D : ga_D), ga_pr D (g_X57_refuse_l3 n x1 x2 x4 D k30) := by
  intro n
  induction n with
  | zero => intro x1 x2 x4 D; exact pr_none
  | succ n ih =>
    intro x1 x2 x4 D
    show ga_pr D (if D 5304 20 ≤ x4 then (k30 x1 x2 x4 D) else (ga_ck (0 ≤ x4 ∧ x4 < 1100) (if D 5318 x4 = x2 then (k30 x1 x2 x4 D) else (ga_let (aw_w32 (x4 + 1)) (fun v24 => g_X57_refuse_l3 n x1 x2 v24 D k30)))))
    refine pr_ite (fun c9 => ?_) (fun c9 => ?_)
    exact hk30 _ _ _ _ 
    refine pr_ck (fun ha18 => ?_)
    refine pr_ite (fun c21 => ?_) (fun c21 => ?_)
    exact hk30 _ _ _ _ 
    refine pr_let (fun v24 => ?_)
    exact ih _ _ _ _ 
theorem g_X57_refuse_j90_pr  (x1 x4 s0 : Int) (D : ga_D) : ga_pr D (g_X57_refuse_j90 x1 x4 s0 D) := by
  unfold g_X57_refuse_j90
  refine pr_upd (ga_Pn K_5304 rfl) (fun D90 => ?_)
  refine pr_ck (fun ha99 => ?_)
  refine pr_ite (fun c102 => ?_) (fun c102 => ?_)
  exact pr_some
  refine pr_ck (fun ha114 => ?_)
  refine pr_upd (ga_Pn K_5320 rfl) (fun D114 => ?_)
  refine pr_upd (ga_Pn K_5304 rfl) (fun D122 => ?_)
  exact pr_some
theorem g_X57_refuse_j66_pr  (x1 x4 s0 s1 s2 : Int) (D : ga_D) : ga_pr D (g_X57_refuse_j66 x1 x4 s0 s1 s2 D) := by
  unfold g_X57_refuse_j66
  refine pr_ck (fun ha66_0 => ?_)
  refine pr_ck (fun hg66_1 => ?_)
  refine pr_ck (fun ha66 => ?_)
  refine pr_upd (ga_Pn (ga_kp ha66_0) rfl) (fun D66 => ?_)
  refine pr_ite (fun c74 => ?_) (fun c74 => ?_)
  refine g_X57_refuse_j90_pr _ _ _ _ 
  refine g_X57_refuse_j90_pr _ _ _ _ 
theorem g_X57_refuse_j30_pr  (x1 x2 x4 : Int) (D : ga_D) : ga_pr D (g_X57_refuse_j30 x1 x2 x4 D) := by
  unfold g_X57_refuse_j30
  refine pr_ck (fun ha37 => ?_)
  refine pr_upd (ga_Pn K_5318 rfl) (fun D37 => ?_)
  refine pr_ite (fun c50 => ?_) (fun c50 => ?_)
  refine pr_ck (fun ha63 => ?_)
  refine g_X57_refuse_j66_pr _ _ _ _ _ _ 
  refine g_X57_refuse_j66_pr _ _ _ _ _ _ 
theorem g_X57_refuse_pr {x1 x2 : Int} {D : ga_D} : ga_pr D (g_X57_refuse x1 x2 D) := by
  unfold g_X57_refuse
  refine g_X57_refuse_l3_pr (fun x1 x2 x4 D30 => ?_) _ _ _ _ _ 
  refine g_X57_refuse_j30_pr _ _ _ _ 
theorem g_X57_give_j67_pr  (x1 x2 x4 x6 : Int) (D : ga_D) : ga_pr D (g_X57_give_j67 x1 x2 x4 x6 D) := by
  unfold g_X57_give_j67
  refine pr_ite (fun c71 => ?_) (fun c71 => ?_)
  refine pr_ck (fun ha85 => ?_)
  refine pr_upd (ga_Pn K_5312 rfl) (fun D85 => ?_)
  refine pr_ck (fun ha95 => ?_)
  refine pr_upd (ga_Pn K_5313 rfl) (fun D95 => ?_)
  refine pr_ck (fun ha106 => ?_)
  refine pr_upd (ga_Pn K_5314 rfl) (fun D106 => ?_)
  refine pr_ck (fun ha121 => ?_)
  refine pr_upd (ga_Pn K_5315 rfl) (fun D121 => ?_)
  refine pr_ck (fun ha131 => ?_)
  refine pr_upd (ga_Pn K_5316 rfl) (fun D131 => ?_)
  refine pr_ck (fun ha141 => ?_)
  refine pr_upd (ga_Pn K_5317 rfl) (fun D141 => ?_)
  refine pr_upd (ga_Pn K_5304 rfl) (fun D149 => ?_)
  exact pr_some
  exact pr_some
theorem g_X57_give_pr {x1 x2 x4 x5 x6 : Int} {D : ga_D} : ga_pr D (g_X57_give x1 x2 x4 x5 x6 D) := by
  unfold g_X57_give
  refine pr_upd (ga_Pn K_5304 rfl) (fun D2 => ?_)
  refine pr_bind (g_X57_isIn_pr) (fun r9 D9 => ?_)
  refine pr_ite (fun c12 => ?_) (fun c12 => ?_)
  exact pr_some
  refine pr_bind (g_X57_isIn_pr) (fun r20 D20 => ?_)
  refine pr_ite (fun c23 => ?_) (fun c23 => ?_)
  exact pr_some
  refine pr_ite (fun c33 => ?_) (fun c33 => ?_)
  refine pr_bind (g_X57_reasonFor_pr) (fun r46 D46 => ?_)
  refine pr_upd (ga_Pn K_5304 rfl) (fun D49 => ?_)
  refine pr_ite (fun c58 => ?_) (fun c58 => ?_)
  refine g_X57_give_j67_pr _ _ _ _ _ 
  refine pr_bind (g_X57_refuse_pr) (fun r64 D64 => ?_)
  refine g_X57_give_j67_pr _ _ _ _ _ 
  exact pr_some
theorem g_X57_width_pr {x1 x2 : Int} {D : ga_D} : ga_pr D (g_X57_width x1 x2 D) := by
  unfold g_X57_width
  refine pr_upd (ga_Pn K_5304 rfl) (fun D2 => ?_)
  refine pr_bind (g_X57_isIn_pr) (fun r10 D10 => ?_)
  refine pr_ite (fun c13 => ?_) (fun c13 => ?_)
  exact pr_some
  refine pr_bind (g_X57_isIn_pr) (fun r21 D21 => ?_)
  refine pr_ite (fun c24 => ?_) (fun c24 => ?_)
  refine pr_ck (fun ha35 => ?_)
  refine pr_upd (ga_Pn K_5305 rfl) (fun D35 => ?_)
  exact pr_some
  exact pr_some
theorem g_X57_size_l2_pr  {k23 : Int → ga_D → ga_S} (hk23 : ∀ (x1 : Int) (D : ga_D), ga_pr D (k23 x1 D)) : ∀ (n : Nat) (x1 : Int) (D : ga_D), ga_pr D (g_X57_size_l2 n x1 D k23) := by
  intro n
  induction n with
  | zero => intro x1 D; exact pr_none
  | succ n ih =>
    intro x1 D
    show ga_pr D (if 64 ≤ x1 then (k23 x1 D) else (ga_ck (0 ≤ x1 ∧ x1 < 64) (if D 5305 x1 ≤ 0 then (k23 x1 D) else (ga_let (aw_w32 (x1 + 1)) (fun v17 => g_X57_size_l2 n v17 D k23)))))
    refine pr_ite (fun c5 => ?_) (fun c5 => ?_)
    exact hk23 _ _ 
    refine pr_ck (fun ha13 => ?_)
    refine pr_ite (fun c14 => ?_) (fun c14 => ?_)
    exact hk23 _ _ 
    refine pr_let (fun v17 => ?_)
    exact ih _ _ 
theorem g_X57_size_pr {D : ga_D} : ga_pr D (g_X57_size D) := by
  unfold g_X57_size
  refine g_X57_size_l2_pr (fun x1 D23 => ?_) _ _ _ 
  exact pr_some
theorem g_X57_at_pr {x1 x2 : Int} {D : ga_D} : ga_pr D (g_X57_at x1 x2 D) := by
  unfold g_X57_at
  refine pr_ite (fun c5 => ?_) (fun c5 => ?_)
  refine pr_ck (fun ha20 => ?_)
  exact pr_some
  refine pr_bind (g_X57_size_pr) (fun r9 D9 => ?_)
  refine pr_ck (fun ha20 => ?_)
  exact pr_some
theorem g_X57_pattern_l121_pr  {k137 : Int → ga_D → ga_S} (hk137 : ∀ (x2 : Int) (D : ga_D), ga_pr D (k137 x2 D)) : ∀ (n : Nat) (x1 x2 x3 : Int) (D : ga_D), ga_pr D (g_X57_pattern_l121 n x1 x2 x3 D k137) := by
  intro n
  induction n with
  | zero => intro x1 x2 x3 D; exact pr_none
  | succ n ih =>
    intro x1 x2 x3 D
    show ga_pr D (if x3 ≤ x1 then (k137 x2 D) else (ga_let (aw_w32 (Int.tdiv x2 10)) (fun v130 => ga_let (aw_w32 (x3 + (-1))) (fun v131 => g_X57_pattern_l121 n x1 v130 v131 D k137))))
    refine pr_ite (fun c123 => ?_) (fun c123 => ?_)
    exact hk137 _ _ 
    refine pr_let (fun v130 => ?_)
    refine pr_let (fun v131 => ?_)
    exact ih _ _ _ _ 
theorem g_X57_pattern_pr {x0 x1 : Int} {D : ga_D} : ga_pr D (g_X57_pattern x0 x1 D) := by
  unfold g_X57_pattern
  refine pr_ite (fun n3_0 => ?_) (fun n3_0 => ?_)
  refine g_X57_pattern_l121_pr (fun x2 D137 => ?_) _ _ _ _ _ 
  exact pr_some
  refine pr_ite (fun n3_1 => ?_) (fun n3_1 => ?_)
  refine g_X57_pattern_l121_pr (fun x2 D137 => ?_) _ _ _ _ _ 
  exact pr_some
  refine pr_ite (fun n3_2 => ?_) (fun n3_2 => ?_)
  refine g_X57_pattern_l121_pr (fun x2 D137 => ?_) _ _ _ _ _ 
  exact pr_some
  refine pr_ite (fun n3_3 => ?_) (fun n3_3 => ?_)
  refine g_X57_pattern_l121_pr (fun x2 D137 => ?_) _ _ _ _ _ 
  exact pr_some
  refine pr_ite (fun n3_4 => ?_) (fun n3_4 => ?_)
  refine g_X57_pattern_l121_pr (fun x2 D137 => ?_) _ _ _ _ _ 
  exact pr_some
  refine pr_ite (fun n3_5 => ?_) (fun n3_5 => ?_)
  refine g_X57_pattern_l121_pr (fun x2 D137 => ?_) _ _ _ _ _ 
  exact pr_some
  refine pr_ite (fun n3_6 => ?_) (fun n3_6 => ?_)
  refine g_X57_pattern_l121_pr (fun x2 D137 => ?_) _ _ _ _ _ 
  exact pr_some
  refine pr_ite (fun n3_7 => ?_) (fun n3_7 => ?_)
  refine g_X57_pattern_l121_pr (fun x2 D137 => ?_) _ _ _ _ _ 
  exact pr_some
  refine pr_ite (fun n3_8 => ?_) (fun n3_8 => ?_)
  refine g_X57_pattern_l121_pr (fun x2 D137 => ?_) _ _ _ _ _ 
  exact pr_some
  refine g_X57_pattern_l121_pr (fun x2 D137 => ?_) _ _ _ _ _ 
  exact pr_some
theorem g_X57_digitAt_l5_pr  {k29 : Int → Int → Int → ga_D → ga_S} (hk29 : ∀ (x1 x2 x3 : Int) (D : ga_D), ga_pr D (k29 x1 x2 x3 D)) : ∀ (n : Nat) (x1 x2 x3 x4 : Int) (D : ga_D), ga_pr D (g_X57_digitAt_l5 n x1 x2 x3 x4 D k29) := by
  intro n
  induction n with
  | zero => intro x1 x2 x3 x4 D; exact pr_none
  | succ n ih =>
    intro x1 x2 x3 x4 D
    show ga_pr D (if 4 ≤ x4 then (k29 x1 x2 x3 D) else (ga_bind (g_X57_at (aw_w32 (x1 + x4)) x2 D) (fun r18 D18 => ga_let (aw_w32 (x3 + r18)) (fun v22 => ga_let (aw_w32 (x4 + 1)) (fun v23 => g_X57_digitAt_l5 n x1 x2 v22 v23 D18 k29)))))
    refine pr_ite (fun c8 => ?_) (fun c8 => ?_)
    exact hk29 _ _ _ _ 
    refine pr_bind (g_X57_at_pr) (fun r18 D18 => ?_)
    refine pr_let (fun v22 => ?_)
    refine pr_let (fun v23 => ?_)
    exact ih _ _ _ _ _ 
theorem g_X57_digitAt_l48_pr  {k96 : Int → Int → Int → Int → Int → Int → ga_D → ga_S} (hk96 : ∀ (x1 x2 x3 x4 x5 x6 : Int) (D : ga_D), ga_pr D (k96 x1 x2 x3 x4 x5 x6 D)) : ∀ (n : Nat) (x1 x2 x3 x4 x5 x6 x7 : Int) (D : ga_D), ga_pr D (g_X57_digitAt_l48 n x1 x2 x3 x4 x5 x6 x7 D k96) := by
  intro n
  induction n with
  | zero => intro x1 x2 x3 x4 x5 x6 x7 D; exact pr_none
  | succ n ih =>
    intro x1 x2 x3 x4 x5 x6 x7 D
    show ga_pr D (if 4 ≤ x7 then (k96 x1 x2 x3 x4 x5 x6 D) else (if x6 = 0 then (ga_let (aw_w32 (x7 + 1)) (fun v90 => g_X57_digitAt_l48 n x1 x2 x3 x4 x5 0 v90 D k96)) else (ga_bind (g_X57_at (aw_w32 (x1 + x7)) x2 D) (fun r67 D67 => ga_bind (g_X57_pattern x5 x7 D67) (fun r76 D76 => if aw_w32 (7 * r67) ≠ aw_w32 (x3 * r76) then (ga_let (aw_w32 (x7 + 1)) (fun v90 => g_X57_digitAt_l48 n x1 x2 x3 x4 x5 0 v90 D76 k96)) else (ga_let (aw_w32 (x7 + 1)) (fun v90 => g_X57_digitAt_l48 n x1 x2 x3 x4 x5 1 v90 D76 k96)))))))
    refine pr_ite (fun c51 => ?_) (fun c51 => ?_)
    exact hk96 _ _ _ _ _ _ _ 
    refine pr_ite (fun c56 => ?_) (fun c56 => ?_)
    refine pr_let (fun v90 => ?_)
    exact ih _ _ _ _ _ _ _ _ 
    refine pr_bind (g_X57_at_pr) (fun r67 D67 => ?_)
    refine pr_bind (g_X57_pattern_pr) (fun r76 D76 => ?_)
    refine pr_ite (fun c80 => ?_) (fun c80 => ?_)
    refine pr_let (fun v90 => ?_)
    exact ih _ _ _ _ _ _ _ _ 
    refine pr_let (fun v90 => ?_)
    exact ih _ _ _ _ _ _ _ _ 
theorem g_X57_digitAt_l35_pr  {k116 : Int → ga_D → ga_S} (hk116 : ∀ (x4 : Int) (D : ga_D), ga_pr D (k116 x4 D)) : ∀ (n : Nat) (x1 x2 x3 x4 x5 : Int) (D : ga_D), ga_pr D (g_X57_digitAt_l35 n x1 x2 x3 x4 x5 D k116) := by
  intro n
  induction n with
  | zero => intro x1 x2 x3 x4 x5 D; exact pr_none
  | succ n ih =>
    intro x1 x2 x3 x4 x5 D
    show ga_pr D (if 10 ≤ x5 then (k116 x4 D) else (g_X57_digitAt_l48 aw_fu x1 x2 x3 x4 x5 1 0 D (fun x1 x2 x3 x4 x5 x6 D96 => if x6 = 0 then (ga_let (aw_w32 (x5 + 1)) (fun v110 => g_X57_digitAt_l35 n x1 x2 x3 x4 v110 D96 k116)) else (ga_let (aw_w32 (x5 + 1)) (fun v110 => g_X57_digitAt_l35 n x1 x2 x3 x5 v110 D96 k116)))))
    refine pr_ite (fun c39 => ?_) (fun c39 => ?_)
    exact hk116 _ _ 
    refine g_X57_digitAt_l48_pr (fun x1 x2 x3 x4 x5 x6 D96 => ?_) _ _ _ _ _ _ _ _ _ 
    refine pr_ite (fun c98 => ?_) (fun c98 => ?_)
    refine pr_let (fun v110 => ?_)
    exact ih _ _ _ _ _ _ 
    refine pr_let (fun v110 => ?_)
    exact ih _ _ _ _ _ _ 
theorem g_X57_digitAt_pr {x1 x2 : Int} {D : ga_D} : ga_pr D (g_X57_digitAt x1 x2 D) := by
  unfold g_X57_digitAt
  refine g_X57_digitAt_l5_pr (fun x1 x2 x3 D29 => ?_) _ _ _ _ _ _ 
  refine g_X57_digitAt_l35_pr (fun x4 D116 => ?_) _ _ _ _ _ _ _ 
  exact pr_some
theorem g_X57_readSo_l112_pr  {k163 : Int → Int → ga_D → ga_S} (hk163 : ∀ (x3 x4 : Int) (D : ga_D), ga_pr D (k163 x3 x4 D)) : ∀ (n : Nat) (x1 x3 x4 x5 : Int) (D : ga_D), ga_pr D (g_X57_readSo_l112 n x1 x3 x4 x5 D k163) := by
  intro n
  induction n with
  | zero => intro x1 x3 x4 x5 D; exact pr_none
  | succ n ih =>
    intro x1 x3 x4 x5 D
    show ga_pr D (if x4 ≤ x5 then (k163 x3 x4 D) else (if x3 = 0 then (k163 x3 x4 D) else (ga_bind (g_X57_digitAt (aw_w32 (3 + (aw_w32 (4 * x5)))) x1 D) (fun r137 D137 => ga_ck (0 ≤ x5 ∧ x5 < 16) (ga_let (ga_set D137 5306 x5 r137) (fun D140 => ga_ck (0 ≤ x5 ∧ x5 < 16) (if D140 5306 x5 < 0 then (ga_let (aw_w32 (x5 + 1)) (fun v157 => g_X57_readSo_l112 n x1 0 x4 v157 D140 k163)) else (ga_let (aw_w32 (x5 + 1)) (fun v157 => g_X57_readSo_l112 n x1 1 x4 v157 D140 k163)))))))))
    refine pr_ite (fun c116 => ?_) (fun c116 => ?_)
    exact hk163 _ _ _ 
    refine pr_ite (fun c120 => ?_) (fun c120 => ?_)
    exact hk163 _ _ _ 
    refine pr_bind (g_X57_digitAt_pr) (fun r137 D137 => ?_)
    refine pr_ck (fun ha140 => ?_)
    refine pr_upd (ga_Pn K_5306 rfl) (fun D140 => ?_)
    refine pr_ck (fun ha147 => ?_)
    refine pr_ite (fun c148 => ?_) (fun c148 => ?_)
    refine pr_let (fun v157 => ?_)
    exact ih _ _ _ _ _ 
    refine pr_let (fun v157 => ?_)
    exact ih _ _ _ _ _ 
theorem g_X57_readSo_j163_pr  (x3 x4 : Int) (D : ga_D) : ga_pr D (g_X57_readSo_j163 x3 x4 D) := by
  unfold g_X57_readSo_j163
  refine pr_ite (fun c165 => ?_) (fun c165 => ?_)
  refine pr_upd (ga_Pn K_5304 rfl) (fun D174 => ?_)
  refine pr_ck (fun hr178 => ?_)
  exact pr_some
  refine pr_upd (ga_Pn K_5304 rfl) (fun D174 => ?_)
  refine pr_ck (fun hr178 => ?_)
  exact pr_some
theorem g_X57_readSo_j100_pr  (x1 x2 s0 : Int) (D : ga_D) : ga_pr D (g_X57_readSo_j100 x1 x2 s0 D) := by
  unfold g_X57_readSo_j100
  refine pr_let (fun v107 => ?_)
  refine g_X57_readSo_l112_pr (fun x3 x4 D163 => ?_) _ _ _ _ _ _ 
  refine g_X57_readSo_j163_pr _ _ _ 
theorem g_X57_readSo_j99_pr  (x1 x2 : Int) (D : ga_D) : ga_pr D (g_X57_readSo_j99 x1 x2 D) := by
  unfold g_X57_readSo_j99
  refine g_X57_readSo_j100_pr _ _ _ _ 
theorem g_X57_readSo_pr {x1 : Int} {D : ga_D} : ga_pr D (g_X57_readSo x1 D) := by
  unfold g_X57_readSo
  refine pr_bind (g_X57_size_pr) (fun r1 D1 => ?_)
  refine pr_upd (ga_Pn K_5304 rfl) (fun D7 => ?_)
  refine pr_ite (fun c13 => ?_) (fun c13 => ?_)
  exact pr_some
  refine pr_ite (fun c22 => ?_) (fun c22 => ?_)
  refine pr_bind (g_X57_at_pr) (fun r30 D30 => ?_)
  refine pr_bind (g_X57_at_pr) (fun r36 D36 => ?_)
  refine pr_ite (fun c39 => ?_) (fun c39 => ?_)
  refine g_X57_readSo_j99_pr _ _ _ 
  refine pr_bind (g_X57_at_pr) (fun r45 D45 => ?_)
  refine pr_bind (g_X57_at_pr) (fun r51 D51 => ?_)
  refine pr_ite (fun c54 => ?_) (fun c54 => ?_)
  refine g_X57_readSo_j99_pr _ _ _ 
  refine pr_bind (g_X57_at_pr) (fun r62 D62 => ?_)
  refine pr_bind (g_X57_at_pr) (fun r70 D70 => ?_)
  refine pr_ite (fun c73 => ?_) (fun c73 => ?_)
  refine g_X57_readSo_j99_pr _ _ _ 
  refine pr_bind (g_X57_at_pr) (fun r81 D81 => ?_)
  refine pr_bind (g_X57_at_pr) (fun r89 D89 => ?_)
  refine pr_ite (fun c92 => ?_) (fun c92 => ?_)
  refine g_X57_readSo_j99_pr _ _ _ 
  refine g_X57_readSo_j100_pr _ _ _ _ 
  exact pr_some
theorem g_X57_read_pr {D : ga_D} : ga_pr D (g_X57_read D) := by
  unfold g_X57_read
  refine pr_upd (ga_Pn K_5304 rfl) (fun D2 => ?_)
  refine pr_bind (g_X57_readSo_pr) (fun r7 D7 => ?_)
  refine pr_ite (fun c10 => ?_) (fun c10 => ?_)
  exact pr_some
  refine pr_bind (g_X57_readSo_pr) (fun r15 D15 => ?_)
  refine pr_ite (fun c18 => ?_) (fun c18 => ?_)
  exact pr_some
  exact pr_some
theorem g_X57_back_pr {D : ga_D} : ga_pr D (g_X57_back D) := by
  unfold g_X57_back
  refine pr_upd (ga_Pn K_5304 rfl) (fun D2 => ?_)
  refine pr_bind (g_X57_readSo_pr) (fun r7 D7 => ?_)
  refine pr_ite (fun c10 => ?_) (fun c10 => ?_)
  exact pr_some
  refine pr_bind (g_X57_readSo_pr) (fun r15 D15 => ?_)
  refine pr_ite (fun c18 => ?_) (fun c18 => ?_)
  exact pr_some
  exact pr_some
theorem g_X57_digit_j18_pr  (x1 s0 : Int) (D : ga_D) : ga_pr D (g_X57_digit_j18 x1 s0 D) := by
  unfold g_X57_digit_j18
  refine pr_upd (ga_Pn K_5304 rfl) (fun D18 => ?_)
  refine pr_ite (fun c25 => ?_) (fun c25 => ?_)
  refine pr_ck (fun ha37 => ?_)
  exact pr_some
  exact pr_some
theorem g_X57_digit_j13_pr  (x1 : Int) (D : ga_D) : ga_pr D (g_X57_digit_j13 x1 D) := by
  unfold g_X57_digit_j13
  refine g_X57_digit_j18_pr _ _ _ 
theorem g_X57_digit_pr {x1 : Int} {D : ga_D} : ga_pr D (g_X57_digit x1 D) := by
  unfold g_X57_digit
  refine pr_ite (fun c2 => ?_) (fun c2 => ?_)
  refine g_X57_digit_j13_pr _ _ 
  refine pr_ite (fun c10 => ?_) (fun c10 => ?_)
  refine g_X57_digit_j18_pr _ _ _ 
  refine g_X57_digit_j13_pr _ _ 
theorem g_X57_check_pr {x1 x2 : Int} {D : ga_D} : ga_pr D (g_X57_check x1 x2 D) := by
  unfold g_X57_check
  refine pr_upd (ga_Pn K_5304 rfl) (fun D2 => ?_)
  refine pr_bind (g_X57_isIn_pr) (fun r8 D8 => ?_)
  refine pr_ite (fun c11 => ?_) (fun c11 => ?_)
  exact pr_some
  refine pr_bind (g_X57_isIn_pr) (fun r18 D18 => ?_)
  refine pr_ite (fun c21 => ?_) (fun c21 => ?_)
  exact pr_some
  refine pr_bind (g_X57_checkOf_pr) (fun r26 D26 => ?_)
  exact pr_some
theorem g_X57_good_pr {x1 x2 : Int} {D : ga_D} : ga_pr D (g_X57_good x1 x2 D) := by
  unfold g_X57_good
  refine pr_upd (ga_Pn K_5304 rfl) (fun D2 => ?_)
  refine pr_bind (g_X57_isIn_pr) (fun r8 D8 => ?_)
  refine pr_ite (fun c11 => ?_) (fun c11 => ?_)
  exact pr_some
  refine pr_bind (g_X57_isIn_pr) (fun r18 D18 => ?_)
  refine pr_ite (fun c21 => ?_) (fun c21 => ?_)
  exact pr_some
  refine pr_bind (g_X57_checkOf_pr) (fun r35 D35 => ?_)
  refine pr_ite (fun c40 => ?_) (fun c40 => ?_)
  exact pr_some
  exact pr_some
theorem g_X57_machine_pr {D : ga_D} : ga_pr D (g_X57_machine D) := by
  unfold g_X57_machine
  refine pr_upd (ga_Pn K_5304 rfl) (fun D2 => ?_)
  refine pr_ite (fun c11 => ?_) (fun c11 => ?_)
  refine pr_ck (fun ha28 => ?_)
  refine pr_upd (ga_Pn K_5307 rfl) (fun D28 => ?_)
  refine pr_upd (ga_Pn K_5304 rfl) (fun D36 => ?_)
  exact pr_some
  exact pr_some
theorem g_X57_shape_pr {x1 x2 x3 : Int} {D : ga_D} : ga_pr D (g_X57_shape x1 x2 x3 D) := by
  unfold g_X57_shape
  refine pr_upd (ga_Pn K_5304 rfl) (fun D2 => ?_)
  refine pr_bind (g_X57_isIn_pr) (fun r10 D10 => ?_)
  refine pr_ite (fun c13 => ?_) (fun c13 => ?_)
  exact pr_some
  refine pr_bind (g_X57_isIn_pr) (fun r21 D21 => ?_)
  refine pr_ite (fun c24 => ?_) (fun c24 => ?_)
  exact pr_some
  refine pr_bind (g_X57_isIn_pr) (fun r32 D32 => ?_)
  refine pr_ite (fun c35 => ?_) (fun c35 => ?_)
  exact pr_some
  refine pr_ite (fun c40 => ?_) (fun c40 => ?_)
  refine pr_ck (fun ha51 => ?_)
  refine pr_upd (ga_Pn K_5310 rfl) (fun D51 => ?_)
  refine pr_ck (fun ha58 => ?_)
  refine pr_upd (ga_Pn K_5311 rfl) (fun D58 => ?_)
  exact pr_some
  exact pr_some
theorem g_X57_full_pr {x1 x2 : Int} {D : ga_D} : ga_pr D (g_X57_full x1 x2 D) := by
  unfold g_X57_full
  refine pr_bind (g_X57_isMachine_pr) (fun r2 D2 => ?_)
  refine pr_ite (fun c5 => ?_) (fun c5 => ?_)
  refine pr_ck (fun ha16 => ?_)
  refine pr_upd (ga_Pn K_5308 rfl) (fun D16 => ?_)
  exact pr_some
  exact pr_some
theorem g_X57_power_pr {x1 x2 : Int} {D : ga_D} : ga_pr D (g_X57_power x1 x2 D) := by
  unfold g_X57_power
  refine pr_bind (g_X57_isMachine_pr) (fun r2 D2 => ?_)
  refine pr_ite (fun c5 => ?_) (fun c5 => ?_)
  refine pr_ite (fun c16 => ?_) (fun c16 => ?_)
  refine pr_ck (fun ha24 => ?_)
  refine pr_upd (ga_Pn K_5309 rfl) (fun D24 => ?_)
  exact pr_some
  refine pr_ck (fun ha24 => ?_)
  refine pr_upd (ga_Pn K_5309 rfl) (fun D24 => ?_)
  exact pr_some
  exact pr_some
theorem g_X57_reason_pr {D : ga_D} : ga_pr D (g_X57_reason D) := by
  unfold g_X57_reason
  refine pr_upd (ga_Pn K_5304 rfl) (fun D2 => ?_)
  exact pr_some
theorem g_X57_count_l28_pr  {k73 : Int → ga_D → ga_S} (hk73 : ∀ (x3 : Int) (D : ga_D), ga_pr D (k73 x3 D)) : ∀ (n : Nat) (x1 x2 x3 x4 : Int) (D : ga_D), ga_pr D (g_X57_count_l28 n x1 x2 x3 x4 D k73) := by
  intro n
  induction n with
  | zero => intro x1 x2 x3 x4 D; exact pr_none
  | succ n ih =>
    intro x1 x2 x3 x4 D
    show ga_pr D (if D 5304 16 ≤ x4 then (k73 x3 D) else (ga_ck (0 ≤ x4 ∧ x4 < 200) (if D 5313 x4 ≠ x1 then (ga_let (aw_w32 (x4 + 1)) (fun v67 => g_X57_count_l28 n x1 x2 x3 v67 D k73)) else (ga_ck (0 ≤ x4 ∧ x4 < 200) (if D 5314 x4 ≠ x2 then (ga_let (aw_w32 (x4 + 1)) (fun v67 => g_X57_count_l28 n x1 x2 x3 v67 D k73)) else (ga_let (aw_w32 (x3 + 1)) (fun v66 => ga_let (aw_w32 (x4 + 1)) (fun v67 => g_X57_count_l28 n x1 x2 v66 v67 D k73))))))))
    refine pr_ite (fun c34 => ?_) (fun c34 => ?_)
    exact hk73 _ _ 
    refine pr_ck (fun ha43 => ?_)
    refine pr_ite (fun c45 => ?_) (fun c45 => ?_)
    refine pr_let (fun v67 => ?_)
    exact ih _ _ _ _ _ 
    refine pr_ck (fun ha54 => ?_)
    refine pr_ite (fun c56 => ?_) (fun c56 => ?_)
    refine pr_let (fun v67 => ?_)
    exact ih _ _ _ _ _ 
    refine pr_let (fun v66 => ?_)
    refine pr_let (fun v67 => ?_)
    exact ih _ _ _ _ _ 
theorem g_X57_count_pr {x1 x2 : Int} {D : ga_D} : ga_pr D (g_X57_count x1 x2 D) := by
  unfold g_X57_count
  refine pr_bind (g_X57_isMachine_pr) (fun r2 D2 => ?_)
  refine pr_ite (fun c5 => ?_) (fun c5 => ?_)
  exact pr_some
  refine pr_bind (g_X57_isIn_pr) (fun r13 D13 => ?_)
  refine pr_ite (fun c16 => ?_) (fun c16 => ?_)
  refine g_X57_count_l28_pr (fun x3 D73 => ?_) _ _ _ _ _ _ 
  exact pr_some
  exact pr_some
theorem g_X57_insert_l6_pr  {k80 : Int → Int → Int → Int → ga_D → ga_S} (hk80 : ∀ (x2 x4 x5 x6 : Int) (D : ga_D), ga_pr D (k80 x2 x4 x5 x6 D)) : ∀ (n : Nat) (x1 x2 x4 x5 x6 : Int) (D : ga_D), ga_pr D (g_X57_insert_l6 n x1 x2 x4 x5 x6 D k80) := by
  intro n
  induction n with
  | zero => intro x1 x2 x4 x5 x6 D; exact pr_none
  | succ n ih =>
    intro x1 x2 x4 x5 x6 D
    show ga_pr D (if x6 ≤ x1 then (k80 x2 x4 x5 x6 D) else (ga_ck (0 ≤ aw_w32 (x6 - 1) ∧ aw_w32 (x6 - 1) < 1100) (if D 5321 (aw_w32 (x6 - 1)) ≤ x2 then (k80 x2 x4 x5 x6 D) else (ga_ck (0 ≤ aw_w32 (x6 - 1) ∧ aw_w32 (x6 - 1) < 1100) (ga_ck (0 ≤ x6 ∧ x6 < 1100) (ga_let (ga_set D 5321 x6 (D 5321 (aw_w32 (x6 - 1)))) (fun D41 => ga_ck (0 ≤ aw_w32 (x6 - 1) ∧ aw_w32 (x6 - 1) < 1100) (ga_ck (0 ≤ x6 ∧ x6 < 1100) (ga_let (ga_set D41 5322 x6 (D41 5322 (aw_w32 (x6 - 1)))) (fun D57 => ga_ck (0 ≤ aw_w32 (x6 - 1) ∧ aw_w32 (x6 - 1) < 1100) (ga_ck (0 ≤ x6 ∧ x6 < 1100) (ga_let (ga_set D57 5323 x6 (D57 5323 (aw_w32 (x6 - 1)))) (fun D73 => ga_let (aw_w32 (x6 + (-1))) (fun v74 => g_X57_insert_l6 n x1 x2 x4 x5 v74 D73 k80))))))))))))))
    refine pr_ite (fun c9 => ?_) (fun c9 => ?_)
    exact hk80 _ _ _ _ _ 
    refine pr_ck (fun ha20 => ?_)
    refine pr_ite (fun c23 => ?_) (fun c23 => ?_)
    exact hk80 _ _ _ _ _ 
    refine pr_ck (fun ha40 => ?_)
    refine pr_ck (fun ha41 => ?_)
    refine pr_upd (ga_Pn K_5321 rfl) (fun D41 => ?_)
    refine pr_ck (fun ha56 => ?_)
    refine pr_ck (fun ha57 => ?_)
    refine pr_upd (ga_Pn K_5322 rfl) (fun D57 => ?_)
    refine pr_ck (fun ha72 => ?_)
    refine pr_ck (fun ha73 => ?_)
    refine pr_upd (ga_Pn K_5323 rfl) (fun D73 => ?_)
    refine pr_let (fun v74 => ?_)
    exact ih _ _ _ _ _ _ 
theorem g_X57_insert_j80_pr  (x2 x4 x5 x6 : Int) (D : ga_D) : ga_pr D (g_X57_insert_j80 x2 x4 x5 x6 D) := by
  unfold g_X57_insert_j80
  refine pr_ck (fun ha87 => ?_)
  refine pr_upd (ga_Pn K_5321 rfl) (fun D87 => ?_)
  refine pr_ck (fun ha96 => ?_)
  refine pr_upd (ga_Pn K_5322 rfl) (fun D96 => ?_)
  refine pr_ck (fun ha105 => ?_)
  refine pr_upd (ga_Pn K_5323 rfl) (fun D105 => ?_)
  refine pr_upd (ga_Pn K_5304 rfl) (fun D113 => ?_)
  exact pr_some
theorem g_X57_insert_pr {x1 x2 x4 x5 : Int} {D : ga_D} : ga_pr D (g_X57_insert x1 x2 x4 x5 D) := by
  unfold g_X57_insert
  refine pr_let (fun v4 => ?_)
  refine g_X57_insert_l6_pr (fun x2 x4 x5 x6 D80 => ?_) _ _ _ _ _ _ _ 
  refine g_X57_insert_j80_pr _ _ _ _ _ 
theorem g_X57_join_j102_pr  {k50 : Int → Int → Int → Int → ga_D → ga_S} (hk50 : ∀ (x3 x4 x5 x6 : Int) (D : ga_D), ga_pr D (k50 x3 x4 x5 x6 D)) (x3 x4 x5 x6 s0 : Int) (D : ga_D) : ga_pr D (g_X57_join_j102 x3 x4 x5 x6 s0 D k50) := by
  unfold g_X57_join_j102
  refine pr_ite (fun c106 => ?_) (fun c106 => ?_)
  refine pr_let (fun v136 => ?_)
  exact hk50 _ _ _ _ _ 
  refine pr_ck (fun ha118 => ?_)
  refine pr_ck (fun ha125 => ?_)
  refine pr_ck (fun ha132 => ?_)
  refine pr_bind (g_X57_insert_pr) (fun r133 D133 => ?_)
  refine pr_let (fun v136 => ?_)
  exact hk50 _ _ _ _ _ 
theorem g_X57_join_j101_pr  {k50 : Int → Int → Int → Int → ga_D → ga_S} (hk50 : ∀ (x3 x4 x5 x6 : Int) (D : ga_D), ga_pr D (k50 x3 x4 x5 x6 D)) (x3 x4 x5 x6 : Int) (D : ga_D) : ga_pr D (g_X57_join_j101 x3 x4 x5 x6 D k50) := by
  unfold g_X57_join_j101
  refine g_X57_join_j102_pr (fun x3 x4 x5 x6 D50 => ?_) _ _ _ _ _ _ 
  exact hk50 _ _ _ _ _ 
theorem g_X57_join_l50_pr  {k142 : Int → Int → Int → ga_D → ga_S} (hk142 : ∀ (x3 x4 x5 : Int) (D : ga_D), ga_pr D (k142 x3 x4 x5 D)) : ∀ (n : Nat) (x3 x4 x5 x6 : Int) (D : ga_D), ga_pr D (g_X57_join_l50 n x3 x4 x5 x6 D k142) := by
  intro n
  induction n with
  | zero => intro x3 x4 x5 x6 D; exact pr_none
  | succ n ih =>
    intro x3 x4 x5 x6 D
    show ga_pr D (if D 5304 16 ≤ x6 then (k142 x3 x4 x5 D) else (ga_ck (0 ≤ x6 ∧ x6 < 200) (if D 5316 x6 = 0 then (g_X57_join_j101 x3 x4 x5 x6 D (fun x3 x4 x5 x6 D50 => g_X57_join_l50 n x3 x4 x5 x6 D50 k142)) else (ga_ck (0 ≤ x6 ∧ x6 < 200) (ga_ck (0 ≤ D 5313 x6 ∧ D 5313 x6 < 6) (if D 5307 (D 5313 x6) ≠ x3 then (g_X57_join_j101 x3 x4 x5 x6 D (fun x3 x4 x5 x6 D50 => g_X57_join_l50 n x3 x4 x5 x6 D50 k142)) else (ga_ck (0 ≤ x6 ∧ x6 < 200) (ga_bind (g_X57_payingOf (D 5312 x6) x4 D) (fun r95 D95 => g_X57_join_j102 x3 x4 x5 x6 r95 D95 (fun x3 x4 x5 x6 D50 => g_X57_join_l50 n x3 x4 x5 x6 D50 k142))))))))))
    refine pr_ite (fun c56 => ?_) (fun c56 => ?_)
    exact hk142 _ _ _ _ 
    refine pr_ck (fun ha65 => ?_)
    refine pr_ite (fun c66 => ?_) (fun c66 => ?_)
    refine g_X57_join_j101_pr (fun x3 x4 x5 x6 D50 => ?_) _ _ _ _ _ 
    exact ih _ _ _ _ _ 
    refine pr_ck (fun ha79 => ?_)
    refine pr_ck (fun ha80 => ?_)
    refine pr_ite (fun c82 => ?_) (fun c82 => ?_)
    refine g_X57_join_j101_pr (fun x3 x4 x5 x6 D50 => ?_) _ _ _ _ _ 
    exact ih _ _ _ _ _ 
    refine pr_ck (fun ha92 => ?_)
    refine pr_bind (g_X57_payingOf_pr) (fun r95 D95 => ?_)
    refine g_X57_join_j102_pr (fun x3 x4 x5 x6 D50 => ?_) _ _ _ _ _ _ 
    exact ih _ _ _ _ _ 
theorem g_X57_join_l146_pr  {k180 : Int → Int → Int → ga_D → ga_S} (hk180 : ∀ (x3 x4 x5 : Int) (D : ga_D), ga_pr D (k180 x3 x4 x5 D)) : ∀ (n : Nat) (x3 x4 x5 x6 : Int) (D : ga_D), ga_pr D (g_X57_join_l146 n x3 x4 x5 x6 D k180) := by
  intro n
  induction n with
  | zero => intro x3 x4 x5 x6 D; exact pr_none
  | succ n ih =>
    intro x3 x4 x5 x6 D
    show ga_pr D (if D 5304 26 ≤ x6 then (k180 x3 x4 x5 D) else (ga_ck (0 ≤ x6 ∧ x6 < 1100) (ga_bind (g_X57_payingOf (D 5321 x6) x4 D) (fun r169 D169 => ga_ck (0 ≤ r169 ∧ r169 < 200) (ga_let (ga_set D169 5316 r169 0) (fun D173 => ga_let (aw_w32 (x6 + 1)) (fun v174 => g_X57_join_l146 n x3 x4 x5 v174 D173 k180)))))))
    refine pr_ite (fun c152 => ?_) (fun c152 => ?_)
    exact hk180 _ _ _ _ 
    refine pr_ck (fun ha166 => ?_)
    refine pr_bind (g_X57_payingOf_pr) (fun r169 D169 => ?_)
    refine pr_ck (fun ha173 => ?_)
    refine pr_upd (ga_Pn K_5316 rfl) (fun D173 => ?_)
    refine pr_let (fun v174 => ?_)
    exact ih _ _ _ _ _ 
theorem g_X57_join_l183_pr  {k228 : Int → ga_D → ga_S} (hk228 : ∀ (x5 : Int) (D : ga_D), ga_pr D (k228 x5 D)) : ∀ (n : Nat) (x3 x4 x5 x6 : Int) (D : ga_D), ga_pr D (g_X57_join_l183 n x3 x4 x5 x6 D k228) := by
  intro n
  induction n with
  | zero => intro x3 x4 x5 x6 D; exact pr_none
  | succ n ih =>
    intro x3 x4 x5 x6 D
    show ga_pr D (if D 5304 4 ≤ x6 then (k228 x5 D) else (ga_ck (0 ≤ x6 ∧ x6 < 6) (if D 5307 x6 ≠ x4 then (ga_ck (0 ≤ x6 ∧ x6 < 6) (ga_ck (0 ≤ x6 ∧ x6 < 6) (ga_let (ga_set D 5307 x6 (D 5307 x6)) (fun D221 => ga_let (aw_w32 (x6 + 1)) (fun v222 => g_X57_join_l183 n x3 x4 x5 v222 D221 k228))))) else (ga_ck (0 ≤ x6 ∧ x6 < 6) (ga_let (ga_set D 5307 x6 x3) (fun D221 => ga_let (aw_w32 (x6 + 1)) (fun v222 => g_X57_join_l183 n x3 x4 x5 v222 D221 k228)))))))
    refine pr_ite (fun c189 => ?_) (fun c189 => ?_)
    exact hk228 _ _ 
    refine pr_ck (fun ha204 => ?_)
    refine pr_ite (fun c207 => ?_) (fun c207 => ?_)
    refine pr_ck (fun ha220 => ?_)
    refine pr_ck (fun ha221 => ?_)
    refine pr_upd (ga_Pn K_5307 rfl) (fun D221 => ?_)
    refine pr_let (fun v222 => ?_)
    exact ih _ _ _ _ _ 
    refine pr_ck (fun ha221 => ?_)
    refine pr_upd (ga_Pn K_5307 rfl) (fun D221 => ?_)
    refine pr_let (fun v222 => ?_)
    exact ih _ _ _ _ _ 
theorem g_X57_join_pr {x1 x2 : Int} {D : ga_D} : ga_pr D (g_X57_join x1 x2 D) := by
  unfold g_X57_join
  refine pr_bind (g_X57_isMachine_pr) (fun r2 D2 => ?_)
  refine pr_ite (fun c5 => ?_) (fun c5 => ?_)
  exact pr_some
  refine pr_bind (g_X57_isMachine_pr) (fun r10 D10 => ?_)
  refine pr_ite (fun c13 => ?_) (fun c13 => ?_)
  refine pr_ck (fun ha23 => ?_)
  refine pr_let (fun v24 => ?_)
  refine pr_ck (fun ha30 => ?_)
  refine pr_let (fun v31 => ?_)
  refine pr_ite (fun c36 => ?_) (fun c36 => ?_)
  refine pr_let (fun v45 => ?_)
  refine g_X57_join_l50_pr (fun x3 x4 x5 D142 => ?_) _ _ _ _ _ _ 
  refine g_X57_join_l146_pr (fun x3 x4 x5 D180 => ?_) _ _ _ _ _ _ 
  refine g_X57_join_l183_pr (fun x5 D228 => ?_) _ _ _ _ _ _ 
  exact pr_some
  exact pr_some
  exact pr_some
theorem g_X57_decimals_l4_pr  {k24 : Int → ga_D → ga_S} (hk24 : ∀ (x2 : Int) (D : ga_D), ga_pr D (k24 x2 D)) : ∀ (n : Nat) (x2 x3 : Int) (D : ga_D), ga_pr D (g_X57_decimals_l4 n x2 x3 D k24) := by
  intro n
  induction n with
  | zero => intro x2 x3 D; exact pr_none
  | succ n ih =>
    intro x2 x3 D
    show ga_pr D (if x3 ≤ 9 then (k24 x2 D) else (ga_let (aw_w32 (x2 + 1)) (fun v12 => ga_let (aw_w64 (Int.tdiv x3 10)) (fun v20 => g_X57_decimals_l4 n v12 v20 D k24))))
    refine pr_ite (fun c9 => ?_) (fun c9 => ?_)
    exact hk24 _ _ 
    refine pr_let (fun v12 => ?_)
    refine pr_let (fun v20 => ?_)
    exact ih _ _ _ 
theorem g_X57_decimals_pr {x0 : Int} {D : ga_D} : ga_pr D (g_X57_decimals x0 D) := by
  unfold g_X57_decimals
  refine g_X57_decimals_l4_pr (fun x2 D24 => ?_) _ _ _ _ 
  exact pr_some
theorem g_X57_double2_l95_pr  {k117 : Int → ga_D → ga_S} (hk117 : ∀ (x4 : Int) (D : ga_D), ga_pr D (k117 x4 D)) : ∀ (n : Nat) (x2 x4 x6 : Int) (D : ga_D), ga_pr D (g_X57_double2_l95 n x2 x4 x6 D k117) := by
  intro n
  induction n with
  | zero => intro x2 x4 x6 D; exact pr_none
  | succ n ih =>
    intro x2 x4 x6 D
    show ga_pr D (if x6 ≤ aw_w32 (x2 - 3) then (k117 x4 D) else (ga_let (aw_w64 (Int.tdiv x4 10)) (fun v109 => ga_let (aw_w32 (x6 + (-1))) (fun v111 => g_X57_double2_l95 n x2 v109 v111 D k117))))
    refine pr_ite (fun c100 => ?_) (fun c100 => ?_)
    exact hk117 _ _ 
    refine pr_let (fun v109 => ?_)
    refine pr_let (fun v111 => ?_)
    exact ih _ _ _ _ 
theorem g_X57_double2_pr {x1 x2 : Int} {D : ga_D} : ga_pr D (g_X57_double2 x1 x2 D) := by
  unfold g_X57_double2
  refine pr_upd (ga_Pn K_5304 rfl) (fun D2 => ?_)
  refine pr_ite (fun c6 => ?_) (fun c6 => ?_)
  exact pr_some
  refine pr_ite (fun c14 => ?_) (fun c14 => ?_)
  exact pr_some
  refine pr_ite (fun c18 => ?_) (fun c18 => ?_)
  exact pr_some
  refine pr_ite (fun c24 => ?_) (fun c24 => ?_)
  refine pr_ck (fun ha34 => ?_)
  refine pr_bind (g_X57_decimals_pr) (fun r35 D35 => ?_)
  refine pr_ite (fun c41 => ?_) (fun c41 => ?_)
  refine pr_ite (fun c77 => ?_) (fun c77 => ?_)
  refine pr_ck (fun ha87 => ?_)
  refine pr_let (fun v88 => ?_)
  refine pr_let (fun v93 => ?_)
  refine g_X57_double2_l95_pr (fun x4 D117 => ?_) _ _ _ _ _ 
  exact pr_some
  exact pr_some
  refine pr_ite (fun c45 => ?_) (fun c45 => ?_)
  refine pr_ite (fun c59 => ?_) (fun c59 => ?_)
  exact pr_some
  refine pr_ck (fun ha67 => ?_)
  exact pr_some
  refine pr_ck (fun ha53 => ?_)
  exact pr_some
  exact pr_some
theorem g_X57_mark_pr {x1 x3 x5 : Int} {D : ga_D} : ga_pr D (g_X57_mark x1 x3 x5 D) := by
  unfold g_X57_mark
  refine pr_upd (ga_Pn K_5304 rfl) (fun D2 => ?_)
  refine pr_bind (g_X57_isIn_pr) (fun r9 D9 => ?_)
  refine pr_ite (fun c12 => ?_) (fun c12 => ?_)
  exact pr_some
  refine pr_bind (g_X57_isIn_pr) (fun r19 D19 => ?_)
  refine pr_ite (fun c22 => ?_) (fun c22 => ?_)
  exact pr_some
  refine pr_bind (g_X57_isIn_pr) (fun r30 D30 => ?_)
  refine pr_ite (fun c33 => ?_) (fun c33 => ?_)
  refine pr_let (fun v43 => ?_)
  refine pr_let (fun v50 => ?_)
  refine pr_ite (fun c80 => ?_) (fun c80 => ?_)
  exact pr_some
  exact pr_some
  exact pr_some
theorem g_X57_coupon_l23_pr  {k66 : Int → ga_D → ga_S} (hk66 : ∀ (x2 : Int) (D : ga_D), ga_pr D (k66 x2 D)) : ∀ (n : Nat) (x1 x2 x3 : Int) (D : ga_D), ga_pr D (g_X57_coupon_l23 n x1 x2 x3 D k66) := by
  intro n
  induction n with
  | zero => intro x1 x2 x3 D; exact pr_none
  | succ n ih =>
    intro x1 x2 x3 D
    show ga_pr D (if D 5304 16 ≤ x3 then (k66 x2 D) else (ga_ck (0 ≤ x3 ∧ x3 < 200) (if D 5313 x3 ≠ x1 then (ga_let (aw_w32 (x3 + 1)) (fun v60 => g_X57_coupon_l23 n x1 x2 v60 D k66)) else (ga_ck (0 ≤ x3 ∧ x3 < 200) (if D 5317 x3 ≠ 0 then (ga_let (aw_w32 (x3 + 1)) (fun v60 => g_X57_coupon_l23 n x1 x2 v60 D k66)) else (ga_ck (0 ≤ x3 ∧ x3 < 200) (ga_let (ga_set D 5317 x3 1) (fun D56 => ga_let (aw_w32 (x2 + 1)) (fun v57 => ga_let (aw_w32 (x3 + 1)) (fun v60 => g_X57_coupon_l23 n x1 v57 v60 D56 k66))))))))))
    refine pr_ite (fun c28 => ?_) (fun c28 => ?_)
    exact hk66 _ _ 
    refine pr_ck (fun ha36 => ?_)
    refine pr_ite (fun c38 => ?_) (fun c38 => ?_)
    refine pr_let (fun v60 => ?_)
    exact ih _ _ _ _ 
    refine pr_ck (fun ha46 => ?_)
    refine pr_ite (fun c47 => ?_) (fun c47 => ?_)
    refine pr_let (fun v60 => ?_)
    exact ih _ _ _ _ 
    refine pr_ck (fun ha56 => ?_)
    refine pr_upd (ga_Pn K_5317 rfl) (fun D56 => ?_)
    refine pr_let (fun v57 => ?_)
    refine pr_let (fun v60 => ?_)
    exact ih _ _ _ _ 
theorem g_X57_coupon_pr {x1 : Int} {D : ga_D} : ga_pr D (g_X57_coupon x1 D) := by
  unfold g_X57_coupon
  refine pr_bind (g_X57_isMachine_pr) (fun r2 D2 => ?_)
  refine pr_ite (fun c5 => ?_) (fun c5 => ?_)
  exact pr_some
  refine pr_ck (fun ha13 => ?_)
  refine pr_ite (fun c14 => ?_) (fun c14 => ?_)
  refine g_X57_coupon_l23_pr (fun x2 D66 => ?_) _ _ _ _ _ 
  refine pr_ite (fun c67 => ?_) (fun c67 => ?_)
  refine pr_ck (fun ha84 => ?_)
  refine pr_upd (ga_Pn K_5324 rfl) (fun D84 => ?_)
  refine pr_upd (ga_Pn K_5304 rfl) (fun D92 => ?_)
  exact pr_some
  exact pr_some
  exact pr_some
theorem g_X57_redeem_pr {x1 x2 : Int} {D : ga_D} : ga_pr D (g_X57_redeem x1 x2 D) := by
  unfold g_X57_redeem
  refine pr_upd (ga_Pn K_5304 rfl) (fun D2 => ?_)
  refine pr_ite (fun c6 => ?_) (fun c6 => ?_)
  exact pr_some
  refine pr_ite (fun c14 => ?_) (fun c14 => ?_)
  exact pr_some
  refine pr_bind (g_X57_isIn_pr) (fun r22 D22 => ?_)
  refine pr_ite (fun c25 => ?_) (fun c25 => ?_)
  exact pr_some
  refine pr_ck (fun ha33 => ?_)
  refine pr_ite (fun c34 => ?_) (fun c34 => ?_)
  refine pr_ck (fun ha45 => ?_)
  refine pr_upd (ga_Pn K_5325 rfl) (fun D45 => ?_)
  refine pr_ck (fun ha52 => ?_)
  refine pr_ck (fun ha58 => ?_)
  refine pr_ck (fun ha61 => ?_)
  refine pr_upd (ga_Pn K_5326 rfl) (fun D61 => ?_)
  exact pr_some
  exact pr_some
theorem g_X57_shop_pr {x1 : Int} {D : ga_D} : ga_pr D (g_X57_shop x1 D) := by
  unfold g_X57_shop
  refine pr_upd (ga_Pn K_5304 rfl) (fun D2 => ?_)
  refine pr_bind (g_X57_isIn_pr) (fun r10 D10 => ?_)
  refine pr_ite (fun c13 => ?_) (fun c13 => ?_)
  exact pr_some
  refine pr_ck (fun ha21 => ?_)
  exact pr_some
theorem g_X57_clear_j86_pr  {k37 : Int → Int → Int → Int → ga_D → ga_S} (hk37 : ∀ (x1 x2 x3 x4 : Int) (D : ga_D), ga_pr D (k37 x1 x2 x3 x4 D)) (x1 x2 x3 x4 s0 s1 s2 s3 : Int) (D : ga_D) : ga_pr D (g_X57_clear_j86 x1 x2 x3 x4 s0 s1 s2 s3 D k37) := by
  unfold g_X57_clear_j86
  refine pr_ck (fun ha87_0 => ?_)
  refine pr_ck (fun hg87_1 => ?_)
  refine pr_ck (fun ha87 => ?_)
  refine pr_upd (ga_Pn (ga_kp ha87_0) rfl) (fun D87 => ?_)
  refine pr_ck (fun ha94 => ?_)
  refine pr_ck (fun ha101 => ?_)
  refine pr_ite (fun c117 => ?_) (fun c117 => ?_)
  refine pr_ck (fun ha128 => ?_)
  refine pr_upd (ga_Pn K_5327 rfl) (fun D128 => ?_)
  refine pr_let (fun v129 => ?_)
  exact hk37 _ _ _ _ _ 
  refine pr_ck (fun ha128 => ?_)
  refine pr_upd (ga_Pn K_5327 rfl) (fun D128 => ?_)
  refine pr_let (fun v129 => ?_)
  exact hk37 _ _ _ _ _ 
theorem g_X57_clear_l37_pr  {k135 : Int → Int → Int → ga_D → ga_S} (hk135 : ∀ (x1 x2 x3 : Int) (D : ga_D), ga_pr D (k135 x1 x2 x3 D)) : ∀ (n : Nat) (x1 x2 x3 x4 : Int) (D : ga_D), ga_pr D (g_X57_clear_l37 n x1 x2 x3 x4 D k135) := by
  intro n
  induction n with
  | zero => intro x1 x2 x3 x4 D; exact pr_none
  | succ n ih =>
    intro x1 x2 x3 x4 D
    show ga_pr D (if D 5304 16 ≤ x4 then (k135 x1 x2 x3 D) else (ga_ck (0 ≤ x4 ∧ x4 < 200) (if D 5315 x4 ≠ x1 then (ga_let (aw_w32 (x4 + 1)) (fun v129 => g_X57_clear_l37 n x1 x2 x3 v129 D k135)) else (ga_ck (0 ≤ x3 ∧ x3 < 3) (ga_ck (0 ≤ x4 ∧ x4 < 200) (if Int.tmod (D 5313 x4) 3 ≠ x3 then (g_X57_clear_j86 x1 x2 x3 x4 0 (D 5327 x3) x3 5327 D (fun x1 x2 x3 x4 D37 => g_X57_clear_l37 n x1 x2 x3 x4 D37 k135)) else (g_X57_clear_j86 x1 x2 x3 x4 25 (D 5327 x3) x3 5327 D (fun x1 x2 x3 x4 D37 => g_X57_clear_l37 n x1 x2 x3 x4 D37 k135))))))))
    refine pr_ite (fun c43 => ?_) (fun c43 => ?_)
    exact hk135 _ _ _ _ 
    refine pr_ck (fun ha52 => ?_)
    refine pr_ite (fun c56 => ?_) (fun c56 => ?_)
    refine pr_let (fun v129 => ?_)
    exact ih _ _ _ _ _ 
    refine pr_ck (fun ha65 => ?_)
    refine pr_ck (fun ha72 => ?_)
    refine pr_ite (fun c76 => ?_) (fun c76 => ?_)
    refine g_X57_clear_j86_pr (fun x1 x2 x3 x4 D37 => ?_) _ _ _ _ _ _ _ _ _ 
    exact ih _ _ _ _ _ 
    refine g_X57_clear_j86_pr (fun x1 x2 x3 x4 D37 => ?_) _ _ _ _ _ _ _ _ _ 
    exact ih _ _ _ _ _ 
theorem g_X57_clear_l22_pr  {k160 : Int → ga_D → ga_S} (hk160 : ∀ (x2 : Int) (D : ga_D), ga_pr D (k160 x2 D)) : ∀ (n : Nat) (x1 x2 x3 : Int) (D : ga_D), ga_pr D (g_X57_clear_l22 n x1 x2 x3 D k160) := by
  intro n
  induction n with
  | zero => intro x1 x2 x3 D; exact pr_none
  | succ n ih =>
    intro x1 x2 x3 D
    show ga_pr D (if 3 ≤ x3 then (k160 x2 D) else (ga_ck (0 ≤ x3 ∧ x3 < 3) (ga_let (ga_set D 5327 x3 0) (fun D33 => g_X57_clear_l37 aw_fu x1 x2 x3 0 D33 (fun x1 x2 x3 D135 => ga_ck (0 ≤ x3 ∧ x3 < 3) (if D135 5327 x3 ≠ 0 then (ga_let (aw_w32 (x2 + 1)) (fun v153 => ga_let (aw_w32 (x3 + 1)) (fun v154 => g_X57_clear_l22 n x1 v153 v154 D135 k160))) else (ga_let (aw_w32 (x3 + 1)) (fun v154 => g_X57_clear_l22 n x1 x2 v154 D135 k160))))))))
    refine pr_ite (fun c24 => ?_) (fun c24 => ?_)
    exact hk160 _ _ 
    refine pr_ck (fun ha33 => ?_)
    refine pr_upd (ga_Pn K_5327 rfl) (fun D33 => ?_)
    refine g_X57_clear_l37_pr (fun x1 x2 x3 D135 => ?_) _ _ _ _ _ _ 
    refine pr_ck (fun ha140 => ?_)
    refine pr_ite (fun c143 => ?_) (fun c143 => ?_)
    refine pr_let (fun v153 => ?_)
    refine pr_let (fun v154 => ?_)
    exact ih _ _ _ _ 
    refine pr_let (fun v154 => ?_)
    exact ih _ _ _ _ 
theorem g_X57_clear_pr {x1 : Int} {D : ga_D} : ga_pr D (g_X57_clear x1 D) := by
  unfold g_X57_clear
  refine pr_upd (ga_Pn K_5304 rfl) (fun D2 => ?_)
  refine pr_bind (g_X57_isIn_pr) (fun r10 D10 => ?_)
  refine pr_ite (fun c13 => ?_) (fun c13 => ?_)
  refine g_X57_clear_l22_pr (fun x2 D160 => ?_) _ _ _ _ _ 
  exact pr_some
  exact pr_some
theorem g_X57_cleared_pr {x1 : Int} {D : ga_D} : ga_pr D (g_X57_cleared x1 D) := by
  unfold g_X57_cleared
  refine pr_upd (ga_Pn K_5304 rfl) (fun D2 => ?_)
  refine pr_bind (g_X57_isIn_pr) (fun r10 D10 => ?_)
  refine pr_ite (fun c13 => ?_) (fun c13 => ?_)
  exact pr_some
  refine pr_ck (fun ha21 => ?_)
  exact pr_some
theorem g_X57_fraud_pr {x1 : Int} {D : ga_D} : ga_pr D (g_X57_fraud x1 D) := by
  unfold g_X57_fraud
  refine pr_upd (ga_Pn K_5304 rfl) (fun D2 => ?_)
  refine pr_ite (fun c6 => ?_) (fun c6 => ?_)
  exact pr_some
  refine pr_ite (fun c14 => ?_) (fun c14 => ?_)
  exact pr_some
  refine pr_ck (fun ha22 => ?_)
  exact pr_some
theorem g_X57_thrown_pr {D : ga_D} : ga_pr D (g_X57_thrown D) := by
  unfold g_X57_thrown
  exact pr_some
