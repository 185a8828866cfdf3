theorem g_X21_isClass_pr {x0 : Int} {D : ga_D} : ga_pr D (g_X21_isClass x0 D) := by
  unfold g_X21_isClass
  refine pr_ite (fun c1 => ?_) (fun c1 => ?_)
  exact pr_some
  refine pr_ite (fun c7 => ?_) (fun c7 => ?_)
  exact pr_some
  exact pr_some
theorem g_X21_isIn_pr {x0 x2 x4 : Int} {D : ga_D} : ga_pr D (g_X21_isIn x0 x2 x4 D) := by
  unfold g_X21_isIn
  refine pr_ite (fun c3 => ?_) (fun c3 => ?_)
  exact pr_some
  refine pr_ite (fun c10 => ?_) (fun c10 => ?_)
  exact pr_some
  exact pr_some
theorem g_X21_load_pr {x1 x2 x4 : Int} {D : ga_D} : ga_pr D (g_X21_load x1 x2 x4 D) := by
  unfold g_X21_load
  refine pr_ite (fun c6 => ?_) (fun c6 => ?_)
  exact pr_some
  refine pr_bind (g_X21_isClass_pr) (fun r10 D10 => ?_)
  refine pr_ite (fun c13 => ?_) (fun c13 => ?_)
  exact pr_some
  refine pr_bind (g_X21_isIn_pr) (fun r21 D21 => ?_)
  refine pr_ite (fun c24 => ?_) (fun c24 => ?_)
  exact pr_some
  refine pr_bind (g_X21_isIn_pr) (fun r33 D33 => ?_)
  refine pr_ite (fun c36 => ?_) (fun c36 => ?_)
  refine pr_ck (fun ha49 => ?_)
  refine pr_upd (ga_Pn (KE_4856 ha49.1 ha49.2) rfl) (fun D55 => ?_)
  refine pr_upd (ga_Pn (KE_4856 ha49.1 ha49.2) rfl) (fun D61 => ?_)
  refine pr_upd (ga_Pn (KE_4856 ha49.1 ha49.2) rfl) (fun D68 => ?_)
  refine pr_upd (ga_Pn K_4854 rfl) (fun D79 => ?_)
  exact pr_some
  exact pr_some
theorem g_X21_isLoad_pr {x1 : Int} {D : ga_D} : ga_pr D (g_X21_isLoad x1 D) := by
  unfold g_X21_isLoad
  refine pr_ite (fun c1 => ?_) (fun c1 => ?_)
  exact pr_some
  refine pr_ite (fun c9 => ?_) (fun c9 => ?_)
  exact pr_some
  refine pr_ck (fun ha17 => ?_)
  refine pr_ite (fun c21 => ?_) (fun c21 => ?_)
  exact pr_some
  exact pr_some
theorem g_X21_isPlace_pr {x1 : Int} {D : ga_D} : ga_pr D (g_X21_isPlace x1 D) := by
  unfold g_X21_isPlace
  refine pr_ite (fun c1 => ?_) (fun c1 => ?_)
  exact pr_some
  refine pr_ite (fun c9 => ?_) (fun c9 => ?_)
  exact pr_some
  exact pr_some
theorem g_X21_look_l2_pr  {k31 : ga_D → ga_S} (hk31 : ∀ (D : ga_D), ga_pr D (k31 D)) : ∀ (n : Nat) (x1 : Int) (D : ga_D), ga_pr D (g_X21_look_l2 n x1 D k31) := by
  intro n
  induction n with
  | zero => intro x1 D; exact pr_none
  | succ n ih =>
    intro x1 D
    show ga_pr D (if D 4854 3 ≤ x1 then (k31 D) else (ga_ck (0 ≤ x1 ∧ x1 < 6) (ga_ck (0 ≤ x1 ∧ x1 < 6) (ga_let (ga_set D 4860 x1 (D ((x1 + 4869)) 3)) (fun D24 => ga_let (aw_w32 (x1 + 1)) (fun v25 => g_X21_look_l2 n v25 D24 k31))))))
    refine pr_ite (fun c7 => ?_) (fun c7 => ?_)
    exact hk31 _ 
    refine pr_ck (fun ha20 => ?_)
    refine pr_ck (fun ha24 => ?_)
    refine pr_upd (ga_Pn K_4860 rfl) (fun D24 => ?_)
    refine pr_let (fun v25 => ?_)
    exact ih _ _ 
theorem g_X21_look_pr {D : ga_D} : ga_pr D (g_X21_look D) := by
  unfold g_X21_look
  refine g_X21_look_l2_pr (fun D31 => ?_) _ _ _ 
  exact pr_some
theorem g_X22_away_pr {x0 x1 : Int} {D : ga_D} : ga_pr D (g_X22_away x0 x1 D) := by
  unfold g_X22_away
  refine pr_ck (fun hk1_0 => ?_)
  refine pr_ck (fun hk5_1 => ?_)
  exact pr_some
theorem g_X21_clash_pr {x1 x2 : Int} {D : ga_D} : ga_pr D (g_X21_clash x1 x2 D) := by
  unfold g_X21_clash
  refine pr_ck (fun ha11 => ?_)
  refine pr_ck (fun ha21 => ?_)
  refine pr_ck (fun ha26 => ?_)
  refine pr_let (fun v27 => ?_)
  refine pr_ck (fun ha33 => ?_)
  refine pr_ite (fun c34 => ?_) (fun c34 => ?_)
  exact pr_some
  refine pr_ck (fun ha42 => ?_)
  refine pr_ite (fun c43 => ?_) (fun c43 => ?_)
  exact pr_some
  refine pr_ck (fun ha55 => ?_)
  refine pr_ck (fun ha58 => ?_)
  refine pr_ck (fun ha68 => ?_)
  refine pr_ck (fun ha71 => ?_)
  refine pr_bind (g_X22_away_pr) (fun r72 D72 => ?_)
  refine pr_ite (fun c78 => ?_) (fun c78 => ?_)
  exact pr_some
  exact pr_some
theorem g_X21_clashing_l2_pr  {k24 : Int → ga_D → ga_S} {k32 : ga_D → ga_S} (hk24 : ∀ (x2 : Int) (D : ga_D), ga_pr D (k24 x2 D)) (hk32 : ∀ (D : ga_D), ga_pr D (k32 D)) : ∀ (n : Nat) (x1 x2 : Int) (D : ga_D), ga_pr D (g_X21_clashing_l2 n x1 x2 D k24 k32) := by
  intro n
  induction n with
  | zero => intro x1 x2 D; exact pr_none
  | succ n ih =>
    intro x1 x2 D
    show ga_pr D (if D 4854 3 ≤ x2 then (k32 D) else (if x2 = x1 then (ga_let (aw_w32 (x2 + 1)) (fun v26 => g_X21_clashing_l2 n x1 v26 D k24 k32)) else (ga_bind (g_X21_clash x1 x2 D) (fun r18 D18 => if r18 = 0 then (ga_let (aw_w32 (x2 + 1)) (fun v26 => g_X21_clashing_l2 n x1 v26 D18 k24 k32)) else (k24 x2 D18)))))
    refine pr_ite (fun c7 => ?_) (fun c7 => ?_)
    exact hk32 _ 
    refine pr_ite (fun c12 => ?_) (fun c12 => ?_)
    refine pr_let (fun v26 => ?_)
    exact ih _ _ _ 
    refine pr_bind (g_X21_clash_pr) (fun r18 D18 => ?_)
    refine pr_ite (fun c21 => ?_) (fun c21 => ?_)
    refine pr_let (fun v26 => ?_)
    exact ih _ _ _ 
    exact hk24 _ _ 
theorem g_X21_clashing_pr {x1 : Int} {D : ga_D} : ga_pr D (g_X21_clashing x1 D) := by
  unfold g_X21_clashing
  refine g_X21_clashing_l2_pr (fun x2 D24 => ?_) (fun D32 => ?_) _ _ _ _ 
  exact pr_some
  exact pr_some
theorem g_X21_isTooMuch_l5_pr  {k61 : Int → Int → ga_D → ga_S} (hk61 : ∀ (x1 x2 : Int) (D : ga_D), ga_pr D (k61 x1 x2 D)) : ∀ (n : Nat) (x1 x2 x4 : Int) (D : ga_D), ga_pr D (g_X21_isTooMuch_l5 n x1 x2 x4 D k61) := by
  intro n
  induction n with
  | zero => intro x1 x2 x4 D; exact pr_none
  | succ n ih =>
    intro x1 x2 x4 D
    show ga_pr D (if D 4854 3 ≤ x4 then (k61 x1 x2 D) else (ga_ck (0 ≤ x4 ∧ x4 < 6) (if D 4860 x4 ≤ 0 then (ga_let (aw_w64 (x2 + 0)) (fun v54 => ga_let (aw_w32 (x4 + 1)) (fun v55 => g_X21_isTooMuch_l5 n x1 v54 v55 D k61))) else (ga_ck (0 ≤ x4 ∧ x4 < 6) (if D ((x4 + 4869)) 0 ≠ x1 then (ga_let (aw_w64 (x2 + 0)) (fun v54 => ga_let (aw_w32 (x4 + 1)) (fun v55 => g_X21_isTooMuch_l5 n x1 v54 v55 D k61))) else (ga_ck (0 ≤ x4 ∧ x4 < 6) (ga_let (aw_w64 (x2 + (D ((x4 + 4869)) 1))) (fun v54 => ga_let (aw_w32 (x4 + 1)) (fun v55 => g_X21_isTooMuch_l5 n x1 v54 v55 D k61)))))))))
    refine pr_ite (fun c11 => ?_) (fun c11 => ?_)
    exact hk61 _ _ _ 
    refine pr_ck (fun ha21 => ?_)
    refine pr_ite (fun c22 => ?_) (fun c22 => ?_)
    refine pr_let (fun v54 => ?_)
    refine pr_let (fun v55 => ?_)
    exact ih _ _ _ _ 
    refine pr_ck (fun ha31 => ?_)
    refine pr_ite (fun c36 => ?_) (fun c36 => ?_)
    refine pr_let (fun v54 => ?_)
    refine pr_let (fun v55 => ?_)
    exact ih _ _ _ _ 
    refine pr_ck (fun ha45 => ?_)
    refine pr_let (fun v54 => ?_)
    refine pr_let (fun v55 => ?_)
    exact ih _ _ _ _ 
theorem g_X21_isTooMuch_pr {x1 : Int} {D : ga_D} : ga_pr D (g_X21_isTooMuch x1 D) := by
  unfold g_X21_isTooMuch
  refine g_X21_isTooMuch_l5_pr (fun x1 x2 D61 => ?_) _ _ _ _ _ 
  refine pr_ck (fun ha67 => ?_)
  refine pr_ite (fun c70 => ?_) (fun c70 => ?_)
  exact pr_some
  exact pr_some
theorem g_X21_needed_l8_pr  {k66 : Int → Int → ga_D → ga_S} (hk66 : ∀ (x2 x4 : Int) (D : ga_D), ga_pr D (k66 x2 x4 D)) : ∀ (n : Nat) (x1 x2 x4 x6 : Int) (D : ga_D), ga_pr D (g_X21_needed_l8 n x1 x2 x4 x6 D k66) := by
  intro n
  induction n with
  | zero => intro x1 x2 x4 x6 D; exact pr_none
  | succ n ih =>
    intro x1 x2 x4 x6 D
    show ga_pr D (if D 4854 3 ≤ x6 then (k66 x2 x4 D) else (ga_ck (0 ≤ x6 ∧ x6 < 6) (if D 4860 x6 ≠ aw_w32 (x1 + 1) then (ga_let (aw_w32 (x6 + 1)) (fun v60 => g_X21_needed_l8 n x1 x2 x4 v60 D k66)) else (ga_ck (0 ≤ x6 ∧ x6 < 6) (ga_let (aw_w64 (x2 + (D ((x6 + 4869)) 2))) (fun v42 => ga_ck (0 ≤ x6 ∧ x6 < 6) (ga_let (aw_max x4 (D ((x6 + 4869)) 2)) (fun v58 => ga_let (aw_w32 (x6 + 1)) (fun v60 => g_X21_needed_l8 n x1 v42 v58 v60 D k66)))))))))
    refine pr_ite (fun c14 => ?_) (fun c14 => ?_)
    exact hk66 _ _ _ 
    refine pr_ck (fun ha23 => ?_)
    refine pr_ite (fun c27 => ?_) (fun c27 => ?_)
    refine pr_let (fun v60 => ?_)
    exact ih _ _ _ _ _ 
    refine pr_ck (fun ha37 => ?_)
    refine pr_let (fun v42 => ?_)
    refine pr_ck (fun ha51 => ?_)
    refine pr_let (fun v58 => ?_)
    refine pr_let (fun v60 => ?_)
    exact ih _ _ _ _ _ 
theorem g_X21_needed_pr {x1 : Int} {D : ga_D} : ga_pr D (g_X21_needed x1 D) := by
  unfold g_X21_needed
  refine g_X21_needed_l8_pr (fun x2 x4 D66 => ?_) _ _ _ _ _ _ 
  exact pr_some
theorem g_X21_isTooSmall_pr {x1 : Int} {D : ga_D} : ga_pr D (g_X21_isTooSmall x1 D) := by
  unfold g_X21_isTooSmall
  refine pr_bind (g_X21_needed_pr) (fun r2 D2 => ?_)
  refine pr_ck (fun ha10 => ?_)
  refine pr_ite (fun c16 => ?_) (fun c16 => ?_)
  exact pr_some
  exact pr_some
theorem g_X21_isGood_l4_pr  {k46 : Int → ga_D → ga_S} (hk46 : ∀ (x1 : Int) (D : ga_D), ga_pr D (k46 x1 D)) : ∀ (n : Nat) (x1 x2 : Int) (D : ga_D), ga_pr D (g_X21_isGood_l4 n x1 x2 D k46) := by
  intro n
  induction n with
  | zero => intro x1 x2 D; exact pr_none
  | succ n ih =>
    intro x1 x2 D
    show ga_pr D (if D 4854 3 ≤ x2 then (k46 x1 D) else (if x1 = 0 then (k46 x1 D) else (ga_ck (0 ≤ x2 ∧ x2 < 6) (if D 4860 x2 = 0 then (ga_let (aw_w32 (x2 + 1)) (fun v40 => g_X21_isGood_l4 n 1 v40 D k46)) else (ga_bind (g_X21_clashing x2 D) (fun r27 D27 => if r27 ≠ (-1) then (ga_let (aw_w32 (x2 + 1)) (fun v40 => g_X21_isGood_l4 n 0 v40 D27 k46)) else (ga_let (aw_w32 (x2 + 1)) (fun v40 => g_X21_isGood_l4 n 1 v40 D27 k46))))))))
    refine pr_ite (fun c9 => ?_) (fun c9 => ?_)
    exact hk46 _ _ 
    refine pr_ite (fun c13 => ?_) (fun c13 => ?_)
    exact hk46 _ _ 
    refine pr_ck (fun ha21 => ?_)
    refine pr_ite (fun c22 => ?_) (fun c22 => ?_)
    refine pr_let (fun v40 => ?_)
    exact ih _ _ _ 
    refine pr_bind (g_X21_clashing_pr) (fun r27 D27 => ?_)
    refine pr_ite (fun c31 => ?_) (fun c31 => ?_)
    refine pr_let (fun v40 => ?_)
    exact ih _ _ _ 
    refine pr_let (fun v40 => ?_)
    exact ih _ _ _ 
theorem g_X21_isGood_l48_pr  {k78 : Int → ga_D → ga_S} (hk78 : ∀ (x1 : Int) (D : ga_D), ga_pr D (k78 x1 D)) : ∀ (n : Nat) (x1 x2 : Int) (D : ga_D), ga_pr D (g_X21_isGood_l48 n x1 x2 D k78) := by
  intro n
  induction n with
  | zero => intro x1 x2 D; exact pr_none
  | succ n ih =>
    intro x1 x2 D
    show ga_pr D (if 6 ≤ x2 then (k78 x1 D) else (if x1 = 0 then (k78 x1 D) else (ga_bind (g_X21_isTooMuch x2 D) (fun r60 D60 => if r60 ≠ 0 then (ga_let (aw_w32 (x2 + 1)) (fun v72 => g_X21_isGood_l48 n 0 v72 D60 k78)) else (ga_let (aw_w32 (x2 + 1)) (fun v72 => g_X21_isGood_l48 n 1 v72 D60 k78))))))
    refine pr_ite (fun c51 => ?_) (fun c51 => ?_)
    exact hk78 _ _ 
    refine pr_ite (fun c55 => ?_) (fun c55 => ?_)
    exact hk78 _ _ 
    refine pr_bind (g_X21_isTooMuch_pr) (fun r60 D60 => ?_)
    refine pr_ite (fun c63 => ?_) (fun c63 => ?_)
    refine pr_let (fun v72 => ?_)
    exact ih _ _ _ 
    refine pr_let (fun v72 => ?_)
    exact ih _ _ _ 
theorem g_X21_isGood_l80_pr  {k112 : Int → ga_D → ga_S} (hk112 : ∀ (x1 : Int) (D : ga_D), ga_pr D (k112 x1 D)) : ∀ (n : Nat) (x1 x2 : Int) (D : ga_D), ga_pr D (g_X21_isGood_l80 n x1 x2 D k112) := by
  intro n
  induction n with
  | zero => intro x1 x2 D; exact pr_none
  | succ n ih =>
    intro x1 x2 D
    show ga_pr D (if D 4854 1 ≤ x2 then (k112 x1 D) else (if x1 = 0 then (k112 x1 D) else (ga_bind (g_X21_isTooSmall x2 D) (fun r94 D94 => if r94 ≠ 0 then (ga_let (aw_w32 (x2 + 1)) (fun v106 => g_X21_isGood_l80 n 0 v106 D94 k112)) else (ga_let (aw_w32 (x2 + 1)) (fun v106 => g_X21_isGood_l80 n 1 v106 D94 k112))))))
    refine pr_ite (fun c85 => ?_) (fun c85 => ?_)
    exact hk112 _ _ 
    refine pr_ite (fun c89 => ?_) (fun c89 => ?_)
    exact hk112 _ _ 
    refine pr_bind (g_X21_isTooSmall_pr) (fun r94 D94 => ?_)
    refine pr_ite (fun c97 => ?_) (fun c97 => ?_)
    refine pr_let (fun v106 => ?_)
    exact ih _ _ _ 
    refine pr_let (fun v106 => ?_)
    exact ih _ _ _ 
theorem g_X21_isGood_pr {D : ga_D} : ga_pr D (g_X21_isGood D) := by
  unfold g_X21_isGood
  refine g_X21_isGood_l4_pr (fun x1 D46 => ?_) _ _ _ _ 
  refine g_X21_isGood_l48_pr (fun x1 D78 => ?_) _ _ _ _ 
  refine g_X21_isGood_l80_pr (fun x1 D112 => ?_) _ _ _ _ 
  refine pr_ck (fun hr113 => ?_)
  exact pr_some
theorem g_X21_reason_pr {x1 x2 : Int} {D : ga_D} : ga_pr D (g_X21_reason x1 x2 D) := by
  unfold g_X21_reason
  refine pr_bind (g_X21_clashing_pr) (fun r2 D2 => ?_)
  refine pr_ite (fun c8 => ?_) (fun c8 => ?_)
  refine pr_ck (fun ha21 => ?_)
  refine pr_bind (g_X21_isTooMuch_pr) (fun r25 D25 => ?_)
  refine pr_ite (fun c28 => ?_) (fun c28 => ?_)
  refine pr_bind (g_X21_isTooSmall_pr) (fun r38 D38 => ?_)
  refine pr_ite (fun c41 => ?_) (fun c41 => ?_)
  refine pr_bind (g_X21_isGood_pr) (fun r50 D50 => ?_)
  refine pr_ite (fun c53 => ?_) (fun c53 => ?_)
  exact pr_some
  exact pr_some
  exact pr_some
  exact pr_some
  exact pr_some
theorem g_X21_bring_pr {x1 x2 : Int} {D : ga_D} : ga_pr D (g_X21_bring x1 x2 D) := by
  unfold g_X21_bring
  refine pr_ck (fun ha5 => ?_)
  refine pr_ite (fun c8 => ?_) (fun c8 => ?_)
  refine pr_upd (ga_Pn (KE_4856 ha5.1 ha5.2) rfl) (fun D36 => ?_)
  exact pr_some
  refine pr_ite (fun c16 => ?_) (fun c16 => ?_)
  refine pr_upd (ga_Pn (KE_4856 ha5.1 ha5.2) rfl) (fun D36 => ?_)
  exact pr_some
  refine pr_upd (ga_Pn K_4854 rfl) (fun D28 => ?_)
  refine pr_upd (ga_Pn (KE_4856 ha5.1 ha5.2) rfl) (fun D31 => ?_)
  refine pr_upd (ga_Pn (KE_4856 ha5.1 ha5.2) rfl) (fun D36 => ?_)
  exact pr_some
theorem g_X21_put_j51_pr  (x1 x2 s0 : Int) (D : ga_D) : ga_pr D (g_X21_put_j51 x1 x2 s0 D) := by
  unfold g_X21_put_j51
  refine pr_ite (fun c53 => ?_) (fun c53 => ?_)
  exact pr_some
  refine pr_bind (g_X21_bring_pr) (fun r61 D61 => ?_)
  exact pr_some
theorem g_X21_put_j23_pr  (x1 x2 : Int) (D : ga_D) : ga_pr D (g_X21_put_j23 x1 x2 D) := by
  unfold g_X21_put_j23
  refine pr_bind (g_X21_look_pr) (fun r24 D24 => ?_)
  refine pr_ck (fun ha35 => ?_)
  refine pr_upd (ga_Pn K_4860 rfl) (fun D35 => ?_)
  refine pr_ite (fun c38 => ?_) (fun c38 => ?_)
  refine pr_bind (g_X21_reason_pr) (fun r48 D48 => ?_)
  refine g_X21_put_j51_pr _ _ _ _ 
  refine g_X21_put_j51_pr _ _ _ _ 
theorem g_X21_put_pr {x1 x2 : Int} {D : ga_D} : ga_pr D (g_X21_put x1 x2 D) := by
  unfold g_X21_put
  refine pr_bind (g_X21_isLoad_pr) (fun r2 D2 => ?_)
  refine pr_ite (fun c5 => ?_) (fun c5 => ?_)
  exact pr_some
  refine pr_ite (fun c10 => ?_) (fun c10 => ?_)
  refine g_X21_put_j23_pr _ _ _ 
  refine pr_bind (g_X21_isPlace_pr) (fun r15 D15 => ?_)
  refine pr_ite (fun c18 => ?_) (fun c18 => ?_)
  refine g_X21_put_j23_pr _ _ _ 
  exact pr_some
theorem g_X21_kept_pr {D : ga_D} : ga_pr D (g_X21_kept D) := by
  unfold g_X21_kept
  refine pr_bind (g_X21_look_pr) (fun r1 D1 => ?_)
  refine pr_bind (g_X21_isGood_pr) (fun r5 D5 => ?_)
  refine pr_ck (fun hr8 => ?_)
  exact pr_some
theorem g_X21_bar_pr {x1 x2 x3 : Int} {D : ga_D} : ga_pr D (g_X21_bar x1 x2 x3 D) := by
  unfold g_X21_bar
  refine pr_bind (g_X21_isClass_pr) (fun r1 D1 => ?_)
  refine pr_ite (fun c4 => ?_) (fun c4 => ?_)
  exact pr_some
  refine pr_bind (g_X21_isClass_pr) (fun r8 D8 => ?_)
  refine pr_ite (fun c11 => ?_) (fun c11 => ?_)
  exact pr_some
  refine pr_bind (g_X21_isIn_pr) (fun r20 D20 => ?_)
  refine pr_ite (fun c23 => ?_) (fun c23 => ?_)
  refine pr_ck (fun ha40 => ?_)
  refine pr_upd (ga_Pn K_4857 rfl) (fun D40 => ?_)
  refine pr_ck (fun ha53 => ?_)
  refine pr_upd (ga_Pn K_4857 rfl) (fun D53 => ?_)
  exact pr_some
  exact pr_some
theorem g_X21_most_pr {x1 x2 : Int} {D : ga_D} : ga_pr D (g_X21_most x1 x2 D) := by
  unfold g_X21_most
  refine pr_bind (g_X21_isClass_pr) (fun r1 D1 => ?_)
  refine pr_ite (fun c4 => ?_) (fun c4 => ?_)
  exact pr_some
  refine pr_bind (g_X21_isIn_pr) (fun r12 D12 => ?_)
  refine pr_ite (fun c15 => ?_) (fun c15 => ?_)
  refine pr_ck (fun ha27 => ?_)
  refine pr_upd (ga_Pn K_4858 rfl) (fun D27 => ?_)
  exact pr_some
  exact pr_some
theorem g_X21_place_pr {x1 x3 x5 : Int} {D : ga_D} : ga_pr D (g_X21_place x1 x3 x5 D) := by
  unfold g_X21_place
  refine pr_ite (fun c5 => ?_) (fun c5 => ?_)
  exact pr_some
  refine pr_bind (g_X21_isIn_pr) (fun r15 D15 => ?_)
  refine pr_ite (fun c18 => ?_) (fun c18 => ?_)
  exact pr_some
  refine pr_bind (g_X21_isIn_pr) (fun r28 D28 => ?_)
  refine pr_ite (fun c31 => ?_) (fun c31 => ?_)
  exact pr_some
  refine pr_bind (g_X21_isIn_pr) (fun r40 D40 => ?_)
  refine pr_ite (fun c43 => ?_) (fun c43 => ?_)
  refine pr_ck (fun ha56 => ?_)
  refine pr_upd (ga_Pn (KE_4855 ha56.1 ha56.2) rfl) (fun D63 => ?_)
  refine pr_upd (ga_Pn (KE_4855 ha56.1 ha56.2) rfl) (fun D70 => ?_)
  refine pr_upd (ga_Pn (KE_4855 ha56.1 ha56.2) rfl) (fun D78 => ?_)
  refine pr_upd (ga_Pn K_4854 rfl) (fun D89 => ?_)
  exact pr_some
  exact pr_some
theorem g_X21_placeOf_pr {x1 : Int} {D : ga_D} : ga_pr D (g_X21_placeOf x1 D) := by
  unfold g_X21_placeOf
  refine pr_ite (fun c1 => ?_) (fun c1 => ?_)
  exact pr_some
  refine pr_ite (fun c9 => ?_) (fun c9 => ?_)
  exact pr_some
  refine pr_ck (fun ha17 => ?_)
  exact pr_some
theorem g_X21_isFine_pr {x1 : Int} {D : ga_D} : ga_pr D (g_X21_isFine x1 D) := by
  unfold g_X21_isFine
  refine pr_bind (g_X21_clashing_pr) (fun r2 D2 => ?_)
  refine pr_ite (fun c6 => ?_) (fun c6 => ?_)
  exact pr_some
  refine pr_ck (fun ha15 => ?_)
  refine pr_bind (g_X21_isTooMuch_pr) (fun r19 D19 => ?_)
  refine pr_ite (fun c22 => ?_) (fun c22 => ?_)
  exact pr_some
  refine pr_ck (fun ha31 => ?_)
  refine pr_bind (g_X21_isTooSmall_pr) (fun r34 D34 => ?_)
  refine pr_ite (fun c37 => ?_) (fun c37 => ?_)
  exact pr_some
  exact pr_some
theorem g_X21_backFrom_l4_pr  {k26 : Int → ga_D → ga_S} (hk26 : ∀ (x2 : Int) (D : ga_D), ga_pr D (k26 x2 D)) : ∀ (n : Nat) (x2 : Int) (D : ga_D), ga_pr D (g_X21_backFrom_l4 n x2 D k26) := by
  intro n
  induction n with
  | zero => intro x2 D; exact pr_none
  | succ n ih =>
    intro x2 D
    show ga_pr D (if x2 < 0 then (k26 x2 D) else (ga_ck (0 ≤ x2 ∧ x2 < 6) (if D ((x2 + 4869)) 4 = 0 then (k26 x2 D) else (ga_let (aw_w32 (x2 + (-1))) (fun v20 => g_X21_backFrom_l4 n v20 D k26)))))
    refine pr_ite (fun c5 => ?_) (fun c5 => ?_)
    exact hk26 _ _ 
    refine pr_ck (fun ha13 => ?_)
    refine pr_ite (fun c17 => ?_) (fun c17 => ?_)
    exact hk26 _ _ 
    refine pr_let (fun v20 => ?_)
    exact ih _ _ 
theorem g_X21_backFrom_pr {x1 : Int} {D : ga_D} : ga_pr D (g_X21_backFrom x1 D) := by
  unfold g_X21_backFrom
  refine pr_let (fun v3 => ?_)
  refine g_X21_backFrom_l4_pr (fun x2 D26 => ?_) _ _ _ 
  exact pr_some
theorem g_X21_plan_l20_pr  {k38 : Int → ga_D → ga_S} (hk38 : ∀ (x1 : Int) (D : ga_D), ga_pr D (k38 x1 D)) : ∀ (n : Nat) (x1 x2 : Int) (D : ga_D), ga_pr D (g_X21_plan_l20 n x1 x2 D k38) := by
  intro n
  induction n with
  | zero => intro x1 x2 D; exact pr_none
  | succ n ih =>
    intro x1 x2 D
    show ga_pr D (if x1 ≤ x2 then (k38 x1 D) else (ga_ck (0 ≤ x2 ∧ x2 < 6) (ga_let (ga_set D 4860 x2 0) (fun D31 => ga_let (aw_w32 (x2 + 1)) (fun v32 => g_X21_plan_l20 n x1 v32 D31 k38)))))
    refine pr_ite (fun c22 => ?_) (fun c22 => ?_)
    exact hk38 _ _ 
    refine pr_ck (fun ha31 => ?_)
    refine pr_upd (ga_Pn K_4860 rfl) (fun D31 => ?_)
    refine pr_let (fun v32 => ?_)
    exact ih _ _ _ 
theorem g_X21_plan_l40_pr  {k125 : Int → Int → ga_D → ga_S} (hk125 : ∀ (x1 x2 : Int) (D : ga_D), ga_pr D (k125 x1 x2 D)) : ∀ (n : Nat) (x1 x2 : Int) (D : ga_D), ga_pr D (g_X21_plan_l40 n x1 x2 D k125) := by
  intro n
  induction n with
  | zero => intro x1 x2 D; exact pr_none
  | succ n ih =>
    intro x1 x2 D
    show ga_pr D (if x2 < 0 then (k125 x1 x2 D) else (if x1 ≤ x2 then (k125 x1 x2 D) else (ga_ck (0 ≤ x2 ∧ x2 < 6) (if D ((x2 + 4869)) 4 = 0 then (ga_ck (0 ≤ x2 ∧ x2 < 6) (if D 4854 1 ≤ D 4860 x2 then (ga_ck (0 ≤ x2 ∧ x2 < 6) (ga_let (ga_set D 4860 x2 0) (fun D115 => ga_bind (g_X21_backFrom x2 D115) (fun r118 D118 => g_X21_plan_l40 n x1 r118 D118 k125)))) else (ga_ck (0 ≤ x2 ∧ x2 < 6) (ga_ck (0 ≤ x2 ∧ x2 < 6) (ga_let (ga_set D 4860 x2 (aw_w32 ((D 4860 x2) + 1))) (fun D89 => ga_bind (g_X21_isFine x2 D89) (fun r93 D93 => if r93 = 0 then (ga_let (aw_w32 (x2 + 0)) (fun v105 => g_X21_plan_l40 n x1 v105 D93 k125)) else (ga_let (aw_w32 (x2 + 1)) (fun v105 => g_X21_plan_l40 n x1 v105 D93 k125))))))))) else (ga_let (aw_w32 (x2 + 1)) (fun v61 => g_X21_plan_l40 n x1 v61 D k125))))))
    refine pr_ite (fun c41 => ?_) (fun c41 => ?_)
    exact hk125 _ _ _ 
    refine pr_ite (fun c46 => ?_) (fun c46 => ?_)
    exact hk125 _ _ _ 
    refine pr_ck (fun ha54 => ?_)
    refine pr_ite (fun c58 => ?_) (fun c58 => ?_)
    refine pr_ck (fun ha72 => ?_)
    refine pr_ite (fun c77 => ?_) (fun c77 => ?_)
    refine pr_ck (fun ha115 => ?_)
    refine pr_upd (ga_Pn K_4860 rfl) (fun D115 => ?_)
    refine pr_bind (g_X21_backFrom_pr) (fun r118 D118 => ?_)
    exact ih _ _ _ 
    refine pr_ck (fun ha86 => ?_)
    refine pr_ck (fun ha89 => ?_)
    refine pr_upd (ga_Pn K_4860 rfl) (fun D89 => ?_)
    refine pr_bind (g_X21_isFine_pr) (fun r93 D93 => ?_)
    refine pr_ite (fun c96 => ?_) (fun c96 => ?_)
    refine pr_let (fun v105 => ?_)
    exact ih _ _ _ 
    refine pr_let (fun v105 => ?_)
    exact ih _ _ _ 
    refine pr_let (fun v61 => ?_)
    exact ih _ _ _ 
theorem g_X21_plan_l154_pr  {k195 : Int → ga_D → ga_S} (hk195 : ∀ (x4 : Int) (D : ga_D), ga_pr D (k195 x4 D)) : ∀ (n : Nat) (x1 x4 x5 : Int) (D : ga_D), ga_pr D (g_X21_plan_l154 n x1 x4 x5 D k195) := by
  intro n
  induction n with
  | zero => intro x1 x4 x5 D; exact pr_none
  | succ n ih =>
    intro x1 x4 x5 D
    show ga_pr D (if x1 ≤ x5 then (k195 x4 D) else (ga_ck (0 ≤ x5 ∧ x5 < 6) (if D ((x5 + 4869)) 4 ≠ 0 then (ga_let (aw_w32 (x5 + 1)) (fun v189 => g_X21_plan_l154 n x1 x4 v189 D k195)) else (ga_ck (0 ≤ x5 ∧ x5 < 6) (ga_bind (g_X21_bring x5 (D 4860 x5) D) (fun r183 D183 => ga_let (aw_w32 (x4 + 1)) (fun v186 => ga_let (aw_w32 (x5 + 1)) (fun v189 => g_X21_plan_l154 n x1 v186 v189 D183 k195))))))))
    refine pr_ite (fun c157 => ?_) (fun c157 => ?_)
    exact hk195 _ _ 
    refine pr_ck (fun ha166 => ?_)
    refine pr_ite (fun c170 => ?_) (fun c170 => ?_)
    refine pr_let (fun v189 => ?_)
    exact ih _ _ _ _ 
    refine pr_ck (fun ha182 => ?_)
    refine pr_bind (g_X21_bring_pr) (fun r183 D183 => ?_)
    refine pr_let (fun v186 => ?_)
    refine pr_let (fun v189 => ?_)
    exact ih _ _ _ _ 
theorem g_X21_plan_j141_pr  (x1 s0 : Int) (D : ga_D) : ga_pr D (g_X21_plan_j141 x1 s0 D) := by
  unfold g_X21_plan_j141
  refine pr_ite (fun c143 => ?_) (fun c143 => ?_)
  refine g_X21_plan_l154_pr (fun x4 D195 => ?_) _ _ _ _ _ 
  exact pr_some
  exact pr_some
theorem g_X21_plan_j140_pr  (x1 : Int) (D : ga_D) : ga_pr D (g_X21_plan_j140 x1 D) := by
  unfold g_X21_plan_j140
  refine g_X21_plan_j141_pr _ _ _ 
theorem g_X21_plan_j125_pr  (x1 x2 : Int) (D : ga_D) : ga_pr D (g_X21_plan_j125 x1 x2 D) := by
  unfold g_X21_plan_j125
  refine pr_ite (fun c126 => ?_) (fun c126 => ?_)
  refine g_X21_plan_j140_pr _ _ 
  refine pr_bind (g_X21_isGood_pr) (fun r130 D130 => ?_)
  refine pr_ite (fun c133 => ?_) (fun c133 => ?_)
  refine g_X21_plan_j140_pr _ _ 
  refine g_X21_plan_j141_pr _ _ _ 
theorem g_X21_plan_pr {x1 : Int} {D : ga_D} : ga_pr D (g_X21_plan x1 D) := by
  unfold g_X21_plan
  refine pr_ite (fun c1 => ?_) (fun c1 => ?_)
  exact pr_some
  refine pr_ite (fun c9 => ?_) (fun c9 => ?_)
  refine pr_bind (g_X21_look_pr) (fun r15 D15 => ?_)
  refine g_X21_plan_l20_pr (fun x1 D38 => ?_) _ _ _ _ 
  refine g_X21_plan_l40_pr (fun x1 x2 D125 => ?_) _ _ _ _ 
  refine g_X21_plan_j125_pr _ _ _ 
  exact pr_some
theorem g_X21_encode_l9_pr  {k30 : Int → ga_D → ga_S} (hk30 : ∀ (x1 : Int) (D : ga_D), ga_pr D (k30 x1 D)) : ∀ (n : Nat) (x1 x2 : Int) (D : ga_D), ga_pr D (g_X21_encode_l9 n x1 x2 D k30) := by
  intro n
  induction n with
  | zero => intro x1 x2 D; exact pr_none
  | succ n ih =>
    intro x1 x2 D
    show ga_pr D (if x2 < 0 then (k30 x1 D) else (ga_ck (0 ≤ x2 ∧ x2 < 6) (ga_let (aw_w32 ((aw_w32 (x1 * 5)) + (D 4860 x2))) (fun v23 => ga_let (aw_w32 (x2 + (-1))) (fun v24 => g_X21_encode_l9 n v23 v24 D k30)))))
    refine pr_ite (fun c10 => ?_) (fun c10 => ?_)
    exact hk30 _ _ 
    refine pr_ck (fun ha21 => ?_)
    refine pr_let (fun v23 => ?_)
    refine pr_let (fun v24 => ?_)
    exact ih _ _ _ 
theorem g_X21_encode_pr {D : ga_D} : ga_pr D (g_X21_encode D) := by
  unfold g_X21_encode
  refine pr_let (fun v8 => ?_)
  refine g_X21_encode_l9_pr (fun x1 D30 => ?_) _ _ _ _ 
  exact pr_some
theorem g_X21_meet_pr {x1 x2 : Int} {D : ga_D} : ga_pr D (g_X21_meet x1 x2 D) := by
  unfold g_X21_meet
  refine pr_ck (fun ha7 => ?_)
  refine pr_upd (ga_Pn K_4861 rfl) (fun D7 => ?_)
  refine pr_upd (ga_Pn K_4854 rfl) (fun D20 => ?_)
  refine pr_ck (fun ha25 => ?_)
  refine pr_upd (ga_Pn K_4862 rfl) (fun D25 => ?_)
  exact pr_some
theorem g_X21_decode_l4_pr  {k31 : ga_D → ga_S} (hk31 : ∀ (D : ga_D), ga_pr D (k31 D)) : ∀ (n : Nat) (x2 x3 : Int) (D : ga_D), ga_pr D (g_X21_decode_l4 n x2 x3 D k31) := by
  intro n
  induction n with
  | zero => intro x2 x3 D; exact pr_none
  | succ n ih =>
    intro x2 x3 D
    show ga_pr D (if D 4854 3 ≤ x3 then (k31 D) else (ga_ck (0 ≤ x3 ∧ x3 < 6) (ga_let (ga_set D 4860 x3 (Int.tmod x2 5)) (fun D20 => ga_let (aw_w32 (Int.tdiv x2 5)) (fun v24 => ga_let (aw_w32 (x3 + 1)) (fun v25 => g_X21_decode_l4 n v24 v25 D20 k31))))))
    refine pr_ite (fun c9 => ?_) (fun c9 => ?_)
    exact hk31 _ 
    refine pr_ck (fun ha20 => ?_)
    refine pr_upd (ga_Pn K_4860 rfl) (fun D20 => ?_)
    refine pr_let (fun v24 => ?_)
    refine pr_let (fun v25 => ?_)
    exact ih _ _ _ 
theorem g_X21_decode_pr {x1 : Int} {D : ga_D} : ga_pr D (g_X21_decode x1 D) := by
  unfold g_X21_decode
  refine g_X21_decode_l4_pr (fun D31 => ?_) _ _ _ _ 
  exact pr_some
theorem g_X21_spread_l77_pr  {k157 : Int → Int → Int → Int → Int → Int → ga_D → ga_S} (hk157 : ∀ (x1 x2 x3 x4 x5 x6 : Int) (D : ga_D), ga_pr D (k157 x1 x2 x3 x4 x5 x6 D)) : ∀ (n : Nat) (x1 x2 x3 x4 x5 x6 x7 : Int) (D : ga_D), ga_pr D (g_X21_spread_l77 n x1 x2 x3 x4 x5 x6 x7 D k157) := by
  intro n
  induction n with
  | zero => intro x1 x2 x3 x4 x5 x6 x7 D; exact pr_none
  | succ n ih =>
    intro x1 x2 x3 x4 x5 x6 x7 D
    show ga_pr D (if D 4854 1 < x7 then (k157 x1 x2 x3 x4 x5 x6 D) else (ga_ck (0 ≤ x5 ∧ x5 < 6) (if D ((x5 + 4869)) 4 ≠ 0 then (k157 x1 x2 x3 x4 x5 x6 D) else (ga_ck (0 ≤ x5 ∧ x5 < 6) (ga_let (ga_set D 4860 x5 x7) (fun D107 => if x7 = x6 then (ga_let (aw_w32 (x7 + 1)) (fun v151 => g_X21_spread_l77 n x1 x2 x3 x4 x5 x6 v151 D107 k157)) else (ga_bind (g_X21_encode D107) (fun r120 D120 => ga_ck (0 ≤ r120 ∧ r120 < 15625) (if D120 4861 r120 ≠ 0 then (ga_let (aw_w32 (x7 + 1)) (fun v151 => g_X21_spread_l77 n x1 x2 x3 x4 x5 x6 v151 D120 k157)) else (ga_bind (g_X21_isGood D120) (fun r128 D128 => if r128 = 0 then (ga_let (aw_w32 (x7 + 1)) (fun v151 => g_X21_spread_l77 n x1 x2 x3 x4 x5 x6 v151 D128 k157)) else (ga_bind (g_X21_encode D128) (fun r136 D136 => ga_ck (0 ≤ x4 ∧ x4 < 15625) (ga_bind (g_X21_meet r136 (aw_w32 ((D136 4861 x4) + 1)) D136) (fun r148 D148 => ga_let (aw_w32 (x7 + 1)) (fun v151 => g_X21_spread_l77 n x1 x2 x3 x4 x5 x6 v151 D148 k157))))))))))))))))
    refine pr_ite (fun c83 => ?_) (fun c83 => ?_)
    exact hk157 _ _ _ _ _ _ _ 
    refine pr_ck (fun ha92 => ?_)
    refine pr_ite (fun c96 => ?_) (fun c96 => ?_)
    exact hk157 _ _ _ _ _ _ _ 
    refine pr_ck (fun ha107 => ?_)
    refine pr_upd (ga_Pn K_4860 rfl) (fun D107 => ?_)
    refine pr_ite (fun c112 => ?_) (fun c112 => ?_)
    refine pr_let (fun v151 => ?_)
    exact ih _ _ _ _ _ _ _ _ 
    refine pr_bind (g_X21_encode_pr) (fun r120 D120 => ?_)
    refine pr_ck (fun ha123 => ?_)
    refine pr_ite (fun c124 => ?_) (fun c124 => ?_)
    refine pr_let (fun v151 => ?_)
    exact ih _ _ _ _ _ _ _ _ 
    refine pr_bind (g_X21_isGood_pr) (fun r128 D128 => ?_)
    refine pr_ite (fun c131 => ?_) (fun c131 => ?_)
    refine pr_let (fun v151 => ?_)
    exact ih _ _ _ _ _ _ _ _ 
    refine pr_bind (g_X21_encode_pr) (fun r136 D136 => ?_)
    refine pr_ck (fun ha145 => ?_)
    refine pr_bind (g_X21_meet_pr) (fun r148 D148 => ?_)
    refine pr_let (fun v151 => ?_)
    exact ih _ _ _ _ _ _ _ _ 
theorem g_X21_spread_l56_pr  {k172 : Int → Int → Int → ga_D → ga_S} (hk172 : ∀ (x1 x2 x3 : Int) (D : ga_D), ga_pr D (k172 x1 x2 x3 D)) : ∀ (n : Nat) (x1 x2 x3 x4 x5 : Int) (D : ga_D), ga_pr D (g_X21_spread_l56 n x1 x2 x3 x4 x5 D k172) := by
  intro n
  induction n with
  | zero => intro x1 x2 x3 x4 x5 D; exact pr_none
  | succ n ih =>
    intro x1 x2 x3 x4 x5 D
    show ga_pr D (if D 4854 3 ≤ x5 then (k172 x1 x2 x3 D) else (ga_ck (0 ≤ x5 ∧ x5 < 6) (ga_let (D 4860 x5) (fun v72 => g_X21_spread_l77 aw_fu x1 x2 x3 x4 x5 v72 0 D (fun x1 x2 x3 x4 x5 x6 D157 => ga_ck (0 ≤ x5 ∧ x5 < 6) (ga_let (ga_set D157 4860 x5 x6) (fun D165 => ga_let (aw_w32 (x5 + 1)) (fun v166 => g_X21_spread_l56 n x1 x2 x3 x4 v166 D165 k172))))))))
    refine pr_ite (fun c62 => ?_) (fun c62 => ?_)
    exact hk172 _ _ _ _ 
    refine pr_ck (fun ha71 => ?_)
    refine pr_let (fun v72 => ?_)
    refine g_X21_spread_l77_pr (fun x1 x2 x3 x4 x5 x6 D157 => ?_) _ _ _ _ _ _ _ _ _ 
    refine pr_ck (fun ha165 => ?_)
    refine pr_upd (ga_Pn K_4860 rfl) (fun D165 => ?_)
    refine pr_let (fun v166 => ?_)
    exact ih _ _ _ _ _ _ 
theorem g_X21_spread_l16_pr  {k50 : Int → ga_D → ga_S} {k178 : ga_D → ga_S} (hk50 : ∀ (x4 : Int) (D : ga_D), ga_pr D (k50 x4 D)) (hk178 : ∀ (D : ga_D), ga_pr D (k178 D)) : ∀ (n : Nat) (x1 x2 x3 : Int) (D : ga_D), ga_pr D (g_X21_spread_l16 n x1 x2 x3 D k50 k178) := by
  intro n
  induction n with
  | zero => intro x1 x2 x3 D; exact pr_none
  | succ n ih =>
    intro x1 x2 x3 D
    show ga_pr D (if D 4854 14 ≤ x3 then (k178 D) else (ga_ck (0 ≤ x3 ∧ x3 < 15625) (ga_let (D 4862 x3) (fun v30 => ga_bind (g_X21_decode v30 D) (fun r35 D35 => ga_ck (0 ≤ x1 ∧ x1 < 6) (if D35 4860 x1 ≠ aw_w32 (x2 + 1) then (g_X21_spread_l56 aw_fu x1 x2 x3 v30 0 D35 (fun x1 x2 x3 D172 => ga_let (aw_w32 (x3 + 1)) (fun v172 => g_X21_spread_l16 n x1 x2 v172 D172 k50 k178))) else (k50 v30 D35)))))))
    refine pr_ite (fun c21 => ?_) (fun c21 => ?_)
    exact hk178 _ 
    refine pr_ck (fun ha29 => ?_)
    refine pr_let (fun v30 => ?_)
    refine pr_bind (g_X21_decode_pr) (fun r35 D35 => ?_)
    refine pr_ck (fun ha43 => ?_)
    refine pr_ite (fun c47 => ?_) (fun c47 => ?_)
    refine g_X21_spread_l56_pr (fun x1 x2 x3 D172 => ?_) _ _ _ _ _ _ _ 
    refine pr_let (fun v172 => ?_)
    exact ih _ _ _ _ 
    exact hk50 _ _ 
theorem g_X21_spread_pr {x1 x2 : Int} {D : ga_D} : ga_pr D (g_X21_spread x1 x2 D) := by
  unfold g_X21_spread
  refine pr_upd (ga_Pn K_4854 rfl) (fun D2 => ?_)
  refine pr_bind (g_X21_encode_pr) (fun r7 D7 => ?_)
  refine pr_bind (g_X21_meet_pr) (fun r11 D11 => ?_)
  refine g_X21_spread_l16_pr (fun x4 D50 => ?_) (fun D178 => ?_) _ _ _ _ _ 
  exact pr_some
  exact pr_some
theorem g_X21_markBack_l89_pr  {k160 : Int → Int → Int → Int → Int → Int → Int → ga_D → ga_S} (hk160 : ∀ (x1 x2 x3 x4 x5 x6 x7 : Int) (D : ga_D), ga_pr D (k160 x1 x2 x3 x4 x5 x6 x7 D)) : ∀ (n : Nat) (x1 x2 x3 x4 x5 x6 x7 x8 : Int) (D : ga_D), ga_pr D (g_X21_markBack_l89 n x1 x2 x3 x4 x5 x6 x7 x8 D k160) := by
  intro n
  induction n with
  | zero => intro x1 x2 x3 x4 x5 x6 x7 x8 D; exact pr_none
  | succ n ih =>
    intro x1 x2 x3 x4 x5 x6 x7 x8 D
    show ga_pr D (if D 4854 1 < x8 then (k160 x1 x2 x3 x4 x5 x6 x7 D) else (if x5 ≠ 0 then (k160 x1 x2 x3 x4 x5 x6 x7 D) else (ga_ck (0 ≤ x6 ∧ x6 < 6) (if D ((x6 + 4869)) 4 ≠ 0 then (k160 x1 x2 x3 x4 x5 x6 x7 D) else (ga_ck (0 ≤ x6 ∧ x6 < 6) (ga_let (ga_set D 4860 x6 x8) (fun D124 => ga_bind (g_X21_encode D124) (fun r130 D130 => ga_ck (0 ≤ r130 ∧ r130 < 15625) (ga_ck (0 ≤ x4 ∧ x4 < 15625) (if D130 4861 r130 ≠ aw_w32 ((aw_w32 (-(D130 4861 x4))) - 1) then (ga_let (aw_w32 (x8 + 1)) (fun v154 => g_X21_markBack_l89 n x1 x2 x3 x4 0 x6 x7 v154 D130 k160)) else (ga_let (aw_w32 (x8 + 1)) (fun v154 => g_X21_markBack_l89 n x1 x2 x3 x4 1 x6 x7 v154 D130 k160))))))))))))
    refine pr_ite (fun c95 => ?_) (fun c95 => ?_)
    exact hk160 _ _ _ _ _ _ _ _ 
    refine pr_ite (fun c100 => ?_) (fun c100 => ?_)
    exact hk160 _ _ _ _ _ _ _ _ 
    refine pr_ck (fun ha109 => ?_)
    refine pr_ite (fun c113 => ?_) (fun c113 => ?_)
    exact hk160 _ _ _ _ _ _ _ _ 
    refine pr_ck (fun ha124 => ?_)
    refine pr_upd (ga_Pn K_4860 rfl) (fun D124 => ?_)
    refine pr_bind (g_X21_encode_pr) (fun r130 D130 => ?_)
    refine pr_ck (fun ha133 => ?_)
    refine pr_ck (fun ha140 => ?_)
    refine pr_ite (fun c144 => ?_) (fun c144 => ?_)
    refine pr_let (fun v154 => ?_)
    exact ih _ _ _ _ _ _ _ _ _ 
    refine pr_let (fun v154 => ?_)
    exact ih _ _ _ _ _ _ _ _ _ 
theorem g_X21_markBack_l63_pr  {k175 : Int → Int → Int → Int → Int → ga_D → ga_S} (hk175 : ∀ (x1 x2 x3 x4 x5 : Int) (D : ga_D), ga_pr D (k175 x1 x2 x3 x4 x5 D)) : ∀ (n : Nat) (x1 x2 x3 x4 x5 x6 : Int) (D : ga_D), ga_pr D (g_X21_markBack_l63 n x1 x2 x3 x4 x5 x6 D k175) := by
  intro n
  induction n with
  | zero => intro x1 x2 x3 x4 x5 x6 D; exact pr_none
  | succ n ih =>
    intro x1 x2 x3 x4 x5 x6 D
    show ga_pr D (if D 4854 3 ≤ x6 then (k175 x1 x2 x3 x4 x5 D) else (if x5 ≠ 0 then (k175 x1 x2 x3 x4 x5 D) else (ga_ck (0 ≤ x6 ∧ x6 < 6) (ga_let (D 4860 x6) (fun v84 => g_X21_markBack_l89 aw_fu x1 x2 x3 x4 x5 x6 v84 0 D (fun x1 x2 x3 x4 x5 x6 x7 D160 => ga_ck (0 ≤ x6 ∧ x6 < 6) (ga_let (ga_set D160 4860 x6 x7) (fun D168 => ga_let (aw_w32 (x6 + 1)) (fun v169 => g_X21_markBack_l63 n x1 x2 x3 x4 x5 v169 D168 k175)))))))))
    refine pr_ite (fun c69 => ?_) (fun c69 => ?_)
    exact hk175 _ _ _ _ _ _ 
    refine pr_ite (fun c74 => ?_) (fun c74 => ?_)
    exact hk175 _ _ _ _ _ _ 
    refine pr_ck (fun ha83 => ?_)
    refine pr_let (fun v84 => ?_)
    refine g_X21_markBack_l89_pr (fun x1 x2 x3 x4 x5 x6 x7 D160 => ?_) _ _ _ _ _ _ _ _ _ _ 
    refine pr_ck (fun ha168 => ?_)
    refine pr_upd (ga_Pn K_4860 rfl) (fun D168 => ?_)
    refine pr_let (fun v169 => ?_)
    exact ih _ _ _ _ _ _ _ 
theorem g_X21_markBack_j175_pr  {k7 : Int → Int → Int → ga_D → ga_S} (hk7 : ∀ (x1 x2 x3 : Int) (D : ga_D), ga_pr D (k7 x1 x2 x3 D)) (x1 x2 x3 x4 x5 : Int) (D : ga_D) : ga_pr D (g_X21_markBack_j175 x1 x2 x3 x4 x5 D k7) := by
  unfold g_X21_markBack_j175
  refine pr_ite (fun c183 => ?_) (fun c183 => ?_)
  refine pr_ck (fun ha203 => ?_)
  refine pr_ck (fun ha205 => ?_)
  refine pr_upd (ga_Pn K_4861 rfl) (fun D205 => ?_)
  refine pr_let (fun v206 => ?_)
  exact hk7 _ _ _ _ 
  refine pr_ck (fun ha192 => ?_)
  refine pr_ck (fun ha205 => ?_)
  refine pr_upd (ga_Pn K_4861 rfl) (fun D205 => ?_)
  refine pr_let (fun v206 => ?_)
  exact hk7 _ _ _ _ 
theorem g_X21_markBack_l7_pr  {k212 : ga_D → ga_S} (hk212 : ∀ (D : ga_D), ga_pr D (k212 D)) : ∀ (n : Nat) (x1 x2 x3 : Int) (D : ga_D), ga_pr D (g_X21_markBack_l7 n x1 x2 x3 D k212) := by
  intro n
  induction n with
  | zero => intro x1 x2 x3 D; exact pr_none
  | succ n ih =>
    intro x1 x2 x3 D
    show ga_pr D (if x3 < 0 then (k212 D) else (ga_ck (0 ≤ x3 ∧ x3 < 15625) (ga_let (D 4862 x3) (fun v17 => ga_bind (g_X21_decode v17 D) (fun r22 D22 => ga_ck (0 ≤ v17 ∧ v17 < 15625) (if D22 4861 v17 ≠ aw_w32 ((D22 4854 13) + 1) then (g_X21_markBack_l63 aw_fu x1 x2 x3 v17 0 0 D22 (fun x1 x2 x3 x4 x5 D175 => g_X21_markBack_j175 x1 x2 x3 x4 x5 D175 (fun x1 x2 x3 D7 => g_X21_markBack_l7 n x1 x2 x3 D7 k212))) else (ga_ck (0 ≤ x1 ∧ x1 < 6) (if D22 4860 x1 ≠ aw_w32 (x2 + 1) then (g_X21_markBack_l63 aw_fu x1 x2 x3 v17 0 0 D22 (fun x1 x2 x3 x4 x5 D175 => g_X21_markBack_j175 x1 x2 x3 x4 x5 D175 (fun x1 x2 x3 D7 => g_X21_markBack_l7 n x1 x2 x3 D7 k212))) else (g_X21_markBack_l63 aw_fu x1 x2 x3 v17 1 0 D22 (fun x1 x2 x3 x4 x5 D175 => g_X21_markBack_j175 x1 x2 x3 x4 x5 D175 (fun x1 x2 x3 D7 => g_X21_markBack_l7 n x1 x2 x3 D7 k212)))))))))))
    refine pr_ite (fun c8 => ?_) (fun c8 => ?_)
    exact hk212 _ 
    refine pr_ck (fun ha16 => ?_)
    refine pr_let (fun v17 => ?_)
    refine pr_bind (g_X21_decode_pr) (fun r22 D22 => ?_)
    refine pr_ck (fun ha31 => ?_)
    refine pr_ite (fun c38 => ?_) (fun c38 => ?_)
    refine g_X21_markBack_l63_pr (fun x1 x2 x3 x4 x5 D175 => ?_) _ _ _ _ _ _ _ _ 
    refine g_X21_markBack_j175_pr (fun x1 x2 x3 D7 => ?_) _ _ _ _ _ _ 
    exact ih _ _ _ _ 
    refine pr_ck (fun ha46 => ?_)
    refine pr_ite (fun c50 => ?_) (fun c50 => ?_)
    refine g_X21_markBack_l63_pr (fun x1 x2 x3 x4 x5 D175 => ?_) _ _ _ _ _ _ _ _ 
    refine g_X21_markBack_j175_pr (fun x1 x2 x3 D7 => ?_) _ _ _ _ _ _ 
    exact ih _ _ _ _ 
    refine g_X21_markBack_l63_pr (fun x1 x2 x3 x4 x5 D175 => ?_) _ _ _ _ _ _ _ _ 
    refine g_X21_markBack_j175_pr (fun x1 x2 x3 D7 => ?_) _ _ _ _ _ _ 
    exact ih _ _ _ _ 
theorem g_X21_markBack_pr {x1 x2 : Int} {D : ga_D} : ga_pr D (g_X21_markBack x1 x2 D) := by
  unfold g_X21_markBack
  refine pr_let (fun v6 => ?_)
  refine g_X21_markBack_l7_pr (fun D212 => ?_) _ _ _ _ _ 
  exact pr_some
theorem g_X21_goAlong_j101_pr  {k45 : Int → Int → Int → Int → Int → ga_D → ga_S} (hk45 : ∀ (x2 x3 x4 x5 x6 : Int) (D : ga_D), ga_pr D (k45 x2 x3 x4 x5 x6 D)) (x2 x4 x5 x6 s0 : Int) (D : ga_D) : ga_pr D (g_X21_goAlong_j101 x2 x4 x5 x6 s0 D k45) := by
  unfold g_X21_goAlong_j101
  refine pr_ck (fun ha110 => ?_)
  refine pr_upd (ga_Pn K_4863 rfl) (fun D110 => ?_)
  refine pr_ck (fun ha121 => ?_)
  refine pr_upd (ga_Pn K_4864 rfl) (fun D121 => ?_)
  refine pr_let (fun v122 => ?_)
  exact hk45 _ _ _ _ _ _ 
theorem g_X21_goAlong_l45_pr  {k128 : Int → Int → Int → Int → ga_D → ga_S} (hk128 : ∀ (x2 x3 x4 x5 : Int) (D : ga_D), ga_pr D (k128 x2 x3 x4 x5 D)) : ∀ (n : Nat) (x2 x3 x4 x5 x6 : Int) (D : ga_D), ga_pr D (g_X21_goAlong_l45 n x2 x3 x4 x5 x6 D k128) := by
  intro n
  induction n with
  | zero => intro x2 x3 x4 x5 x6 D; exact pr_none
  | succ n ih =>
    intro x2 x3 x4 x5 x6 D
    show ga_pr D (if D 4854 1 < x6 then (k128 x2 x3 x4 x5 D) else (if x3 ≠ 0 then (k128 x2 x3 x4 x5 D) else (ga_ck (0 ≤ x4 ∧ x4 < 6) (if D ((x4 + 4869)) 4 ≠ 0 then (k128 x2 x3 x4 x5 D) else (ga_ck (0 ≤ x4 ∧ x4 < 6) (ga_let (ga_set D 4860 x4 x6) (fun D79 => ga_bind (g_X21_encode D79) (fun r85 D85 => ga_ck (0 ≤ r85 ∧ r85 < 15625) (if D85 4861 r85 ≠ aw_w32 ((aw_w32 (-x2)) - 2) then (g_X21_goAlong_j101 x2 x4 x5 x6 0 D85 (fun x2 x3 x4 x5 x6 D45 => g_X21_goAlong_l45 n x2 x3 x4 x5 x6 D45 k128)) else (g_X21_goAlong_j101 x2 x4 x5 x6 1 D85 (fun x2 x3 x4 x5 x6 D45 => g_X21_goAlong_l45 n x2 x3 x4 x5 x6 D45 k128)))))))))))
    refine pr_ite (fun c51 => ?_) (fun c51 => ?_)
    exact hk128 _ _ _ _ _ 
    refine pr_ite (fun c55 => ?_) (fun c55 => ?_)
    exact hk128 _ _ _ _ _ 
    refine pr_ck (fun ha64 => ?_)
    refine pr_ite (fun c68 => ?_) (fun c68 => ?_)
    exact hk128 _ _ _ _ _ 
    refine pr_ck (fun ha79 => ?_)
    refine pr_upd (ga_Pn K_4860 rfl) (fun D79 => ?_)
    refine pr_bind (g_X21_encode_pr) (fun r85 D85 => ?_)
    refine pr_ck (fun ha88 => ?_)
    refine pr_ite (fun c93 => ?_) (fun c93 => ?_)
    refine g_X21_goAlong_j101_pr (fun x2 x3 x4 x5 x6 D45 => ?_) _ _ _ _ _ _ 
    exact ih _ _ _ _ _ _ 
    refine g_X21_goAlong_j101_pr (fun x2 x3 x4 x5 x6 D45 => ?_) _ _ _ _ _ _ 
    exact ih _ _ _ _ _ _ 
theorem g_X21_goAlong_j128_pr  {k20 : Int → Int → Int → ga_D → ga_S} (hk20 : ∀ (x2 x3 x4 : Int) (D : ga_D), ga_pr D (k20 x2 x3 x4 D)) (x2 x3 x4 x5 : Int) (D : ga_D) : ga_pr D (g_X21_goAlong_j128 x2 x3 x4 x5 D k20) := by
  unfold g_X21_goAlong_j128
  refine pr_ite (fun c135 => ?_) (fun c135 => ?_)
  refine pr_ck (fun ha150 => ?_)
  refine pr_upd (ga_Pn K_4860 rfl) (fun D150 => ?_)
  refine pr_let (fun v151 => ?_)
  exact hk20 _ _ _ _ 
  refine pr_ck (fun ha144 => ?_)
  refine pr_ck (fun ha150 => ?_)
  refine pr_upd (ga_Pn K_4860 rfl) (fun D150 => ?_)
  refine pr_let (fun v151 => ?_)
  exact hk20 _ _ _ _ 
theorem g_X21_goAlong_l20_pr  {k157 : Int → ga_D → ga_S} (hk157 : ∀ (x2 : Int) (D : ga_D), ga_pr D (k157 x2 D)) : ∀ (n : Nat) (x2 x3 x4 : Int) (D : ga_D), ga_pr D (g_X21_goAlong_l20 n x2 x3 x4 D k157) := by
  intro n
  induction n with
  | zero => intro x2 x3 x4 D; exact pr_none
  | succ n ih =>
    intro x2 x3 x4 D
    show ga_pr D (if D 4854 3 ≤ x4 then (k157 x2 D) else (if x3 ≠ 0 then (k157 x2 D) else (ga_ck (0 ≤ x4 ∧ x4 < 6) (ga_let (D 4860 x4) (fun v40 => g_X21_goAlong_l45 aw_fu x2 x3 x4 v40 0 D (fun x2 x3 x4 x5 D128 => g_X21_goAlong_j128 x2 x3 x4 x5 D128 (fun x2 x3 x4 D20 => g_X21_goAlong_l20 n x2 x3 x4 D20 k157)))))))
    refine pr_ite (fun c26 => ?_) (fun c26 => ?_)
    exact hk157 _ _ 
    refine pr_ite (fun c30 => ?_) (fun c30 => ?_)
    exact hk157 _ _ 
    refine pr_ck (fun ha39 => ?_)
    refine pr_let (fun v40 => ?_)
    refine g_X21_goAlong_l45_pr (fun x2 x3 x4 x5 D128 => ?_) _ _ _ _ _ _ _ 
    refine g_X21_goAlong_j128_pr (fun x2 x3 x4 D20 => ?_) _ _ _ _ _ 
    exact ih _ _ _ _ 
theorem g_X21_goAlong_l7_pr  {k163 : ga_D → ga_S} (hk163 : ∀ (D : ga_D), ga_pr D (k163 D)) : ∀ (n : Nat) (x2 : Int) (D : ga_D), ga_pr D (g_X21_goAlong_l7 n x2 D k163) := by
  intro n
  induction n with
  | zero => intro x2 D; exact pr_none
  | succ n ih =>
    intro x2 D
    show ga_pr D (if D 4854 13 ≤ x2 then (k163 D) else (g_X21_goAlong_l20 aw_fu x2 0 0 D (fun x2 D157 => ga_let (aw_w32 (x2 + 1)) (fun v157 => g_X21_goAlong_l7 n v157 D157 k163))))
    refine pr_ite (fun c12 => ?_) (fun c12 => ?_)
    exact hk163 _ 
    refine g_X21_goAlong_l20_pr (fun x2 D157 => ?_) _ _ _ _ _ 
    refine pr_let (fun v157 => ?_)
    exact ih _ _ 
theorem g_X21_goAlong_pr {x1 : Int} {D : ga_D} : ga_pr D (g_X21_goAlong x1 D) := by
  unfold g_X21_goAlong
  refine pr_bind (g_X21_decode_pr) (fun r2 D2 => ?_)
  refine g_X21_goAlong_l7_pr (fun D163 => ?_) _ _ _ 
  exact pr_some
theorem g_X21_moves_l28_pr  {k47 : Int → Int → Int → ga_D → ga_S} (hk47 : ∀ (x1 x2 x3 : Int) (D : ga_D), ga_pr D (k47 x1 x2 x3 D)) : ∀ (n : Nat) (x1 x2 x3 x4 : Int) (D : ga_D), ga_pr D (g_X21_moves_l28 n x1 x2 x3 x4 D k47) := by
  intro n
  induction n with
  | zero => intro x1 x2 x3 x4 D; exact pr_none
  | succ n ih =>
    intro x1 x2 x3 x4 D
    show ga_pr D (if D 4854 3 ≤ x4 then (k47 x1 x2 x3 D) else (ga_let (aw_w32 (x3 * 5)) (fun v40 => ga_let (aw_w32 (x4 + 1)) (fun v41 => g_X21_moves_l28 n x1 x2 v40 v41 D k47))))
    refine pr_ite (fun c34 => ?_) (fun c34 => ?_)
    exact hk47 _ _ _ _ 
    refine pr_let (fun v40 => ?_)
    refine pr_let (fun v41 => ?_)
    exact ih _ _ _ _ _ 
theorem g_X21_moves_l50_pr  {k70 : Int → Int → ga_D → ga_S} (hk70 : ∀ (x1 x2 : Int) (D : ga_D), ga_pr D (k70 x1 x2 D)) : ∀ (n : Nat) (x1 x2 x3 x4 : Int) (D : ga_D), ga_pr D (g_X21_moves_l50 n x1 x2 x3 x4 D k70) := by
  intro n
  induction n with
  | zero => intro x1 x2 x3 x4 D; exact pr_none
  | succ n ih =>
    intro x1 x2 x3 x4 D
    show ga_pr D (if x3 ≤ x4 then (k70 x1 x2 D) else (ga_ck (0 ≤ x4 ∧ x4 < 15625) (ga_let (ga_set D 4861 x4 0) (fun D63 => ga_let (aw_w32 (x4 + 1)) (fun v64 => g_X21_moves_l50 n x1 x2 x3 v64 D63 k70)))))
    refine pr_ite (fun c53 => ?_) (fun c53 => ?_)
    exact hk70 _ _ _ 
    refine pr_ck (fun ha63 => ?_)
    refine pr_upd (ga_Pn K_4861 rfl) (fun D63 => ?_)
    refine pr_let (fun v64 => ?_)
    exact ih _ _ _ _ _ 
theorem g_X21_moves_pr {x1 x2 : Int} {D : ga_D} : ga_pr D (g_X21_moves x1 x2 D) := by
  unfold g_X21_moves
  refine pr_bind (g_X21_isLoad_pr) (fun r2 D2 => ?_)
  refine pr_ite (fun c5 => ?_) (fun c5 => ?_)
  exact pr_some
  refine pr_bind (g_X21_isPlace_pr) (fun r10 D10 => ?_)
  refine pr_ite (fun c13 => ?_) (fun c13 => ?_)
  refine pr_upd (ga_Pn K_4854 rfl) (fun D20 => ?_)
  refine g_X21_moves_l28_pr (fun x1 x2 x3 D47 => ?_) _ _ _ _ _ _ 
  refine g_X21_moves_l50_pr (fun x1 x2 D70 => ?_) _ _ _ _ _ _ 
  refine pr_bind (g_X21_look_pr) (fun r71 D71 => ?_)
  refine pr_bind (g_X21_encode_pr) (fun r75 D75 => ?_)
  refine pr_bind (g_X21_spread_pr) (fun r83 D83 => ?_)
  refine pr_ite (fun c91 => ?_) (fun c91 => ?_)
  refine pr_ck (fun ha103 => ?_)
  refine pr_upd (ga_Pn K_4854 rfl) (fun D106 => ?_)
  refine pr_bind (g_X21_markBack_pr) (fun r112 D112 => ?_)
  refine pr_bind (g_X21_goAlong_pr) (fun r118 D118 => ?_)
  exact pr_some
  exact pr_some
  exact pr_some
theorem g_X21_step_pr {x1 x2 : Int} {D : ga_D} : ga_pr D (g_X21_step x1 x2 D) := by
  unfold g_X21_step
  refine pr_ite (fun c1 => ?_) (fun c1 => ?_)
  exact pr_some
  refine pr_ite (fun c9 => ?_) (fun c9 => ?_)
  exact pr_some
  refine pr_ite (fun c13 => ?_) (fun c13 => ?_)
  exact pr_some
  refine pr_ite (fun c18 => ?_) (fun c18 => ?_)
  refine pr_ite (fun c25 => ?_) (fun c25 => ?_)
  refine pr_ck (fun ha42 => ?_)
  exact pr_some
  refine pr_ck (fun ha33 => ?_)
  exact pr_some
  exact pr_some
theorem g_X21_basin_pr {x1 x2 : Int} {D : ga_D} : ga_pr D (g_X21_basin x1 x2 D) := by
  unfold g_X21_basin
  refine pr_bind (g_X21_isPlace_pr) (fun r2 D2 => ?_)
  refine pr_ite (fun c5 => ?_) (fun c5 => ?_)
  exact pr_some
  refine pr_ite (fun c9 => ?_) (fun c9 => ?_)
  exact pr_some
  refine pr_ite (fun c14 => ?_) (fun c14 => ?_)
  refine pr_bind (g_X21_look_pr) (fun r22 D22 => ?_)
  refine pr_ite (fun c26 => ?_) (fun c26 => ?_)
  refine pr_ck (fun ha42 => ?_)
  exact pr_some
  refine pr_bind (g_X21_needed_pr) (fun r31 D31 => ?_)
  exact pr_some
  exact pr_some
theorem g_X21_areTwo_pr {x1 x2 : Int} {D : ga_D} : ga_pr D (g_X21_areTwo x1 x2 D) := by
  unfold g_X21_areTwo
  refine pr_bind (g_X21_isLoad_pr) (fun r2 D2 => ?_)
  refine pr_ite (fun c5 => ?_) (fun c5 => ?_)
  exact pr_some
  refine pr_bind (g_X21_isLoad_pr) (fun r10 D10 => ?_)
  refine pr_ite (fun c13 => ?_) (fun c13 => ?_)
  exact pr_some
  refine pr_ite (fun c18 => ?_) (fun c18 => ?_)
  exact pr_some
  exact pr_some
theorem g_X21_trial_j84_pr  (x5 s0 s1 s2 : Int) (D : ga_D) : ga_pr D (g_X21_trial_j84 x5 s0 s1 s2 D) := by
  unfold g_X21_trial_j84
  refine pr_ck (fun ha85_0 => ?_)
  refine pr_ck (fun hg85_1 => ?_)
  refine pr_ck (fun ha85 => ?_)
  refine pr_upd (ga_Pn (ga_kp ha85_0) rfl) (fun D85 => ?_)
  refine pr_ite (fun c88 => ?_) (fun c88 => ?_)
  exact pr_some
  exact pr_some
theorem g_X21_trial_j62_pr  (x1 x2 x5 s0 s1 s2 : Int) (D : ga_D) : ga_pr D (g_X21_trial_j62 x1 x2 x5 s0 s1 s2 D) := by
  unfold g_X21_trial_j62
  refine pr_ck (fun ha63_0 => ?_)
  refine pr_ck (fun hg63_1 => ?_)
  refine pr_ck (fun ha63 => ?_)
  refine pr_upd (ga_Pn (ga_kp ha63_0) rfl) (fun D63 => ?_)
  refine pr_ite (fun c76 => ?_) (fun c76 => ?_)
  refine g_X21_trial_j84_pr _ _ _ _ _ 
  refine g_X21_trial_j84_pr _ _ _ _ _ 
theorem g_X21_trial_j40_pr  (x1 x2 s0 : Int) (D : ga_D) : ga_pr D (g_X21_trial_j40 x1 x2 s0 D) := by
  unfold g_X21_trial_j40
  refine pr_ite (fun c54 => ?_) (fun c54 => ?_)
  refine g_X21_trial_j62_pr _ _ _ _ _ _ _ 
  refine g_X21_trial_j62_pr _ _ _ _ _ _ _ 
theorem g_X21_trial_pr {x1 x2 x3 : Int} {D : ga_D} : ga_pr D (g_X21_trial x1 x2 x3 D) := by
  unfold g_X21_trial
  refine pr_bind (g_X21_areTwo_pr) (fun r3 D3 => ?_)
  refine pr_ite (fun c6 => ?_) (fun c6 => ?_)
  exact pr_some
  refine pr_ite (fun c14 => ?_) (fun c14 => ?_)
  exact pr_some
  refine pr_ite (fun c22 => ?_) (fun c22 => ?_)
  refine pr_ite (fun c32 => ?_) (fun c32 => ?_)
  refine g_X21_trial_j40_pr _ _ _ _ 
  refine g_X21_trial_j40_pr _ _ _ _ 
  exact pr_some
theorem g_X21_forget_pr {x1 x2 : Int} {D : ga_D} : ga_pr D (g_X21_forget x1 x2 D) := by
  unfold g_X21_forget
  refine pr_ck (fun ha11 => ?_)
  refine pr_upd (ga_Pn K_4859 rfl) (fun D11 => ?_)
  refine pr_ck (fun ha23 => ?_)
  refine pr_upd (ga_Pn K_4859 rfl) (fun D23 => ?_)
  exact pr_some
theorem g_X21_mix_l166_pr  {k193 : ga_D → ga_S} (hk193 : ∀ (D : ga_D), ga_pr D (k193 D)) : ∀ (n : Nat) (x1 x2 x6 : Int) (D : ga_D), ga_pr D (g_X21_mix_l166 n x1 x2 x6 D k193) := by
  intro n
  induction n with
  | zero => intro x1 x2 x6 D; exact pr_none
  | succ n ih =>
    intro x1 x2 x6 D
    show ga_pr D (if 6 ≤ x6 then (k193 D) else (ga_bind (g_X21_forget x1 x6 D) (fun r177 D177 => ga_bind (g_X21_forget x2 x6 D177) (fun r184 D184 => ga_let (aw_w32 (x6 + 1)) (fun v187 => g_X21_mix_l166 n x1 x2 v187 D184 k193)))))
    refine pr_ite (fun c170 => ?_) (fun c170 => ?_)
    exact hk193 _ 
    refine pr_bind (g_X21_forget_pr) (fun r177 D177 => ?_)
    refine pr_bind (g_X21_forget_pr) (fun r184 D184 => ?_)
    refine pr_let (fun v187 => ?_)
    exact ih _ _ _ _ 
theorem g_X21_mix_pr {x1 x2 : Int} {D : ga_D} : ga_pr D (g_X21_mix x1 x2 D) := by
  unfold g_X21_mix
  refine pr_bind (g_X21_areTwo_pr) (fun r3 D3 => ?_)
  refine pr_ite (fun c6 => ?_) (fun c6 => ?_)
  refine pr_ck (fun ha16 => ?_)
  refine pr_ck (fun ha23 => ?_)
  refine pr_ck (fun ha36 => ?_)
  refine pr_let (fun v37 => ?_)
  refine pr_ite (fun c42 => ?_) (fun c42 => ?_)
  refine pr_ck (fun ha69 => ?_)
  refine pr_ite (fun c70 => ?_) (fun c70 => ?_)
  refine pr_bind (g_X21_look_pr) (fun r76 D76 => ?_)
  refine pr_ck (fun ha85 => ?_)
  refine pr_upd (ga_Pn K_4860 rfl) (fun D85 => ?_)
  refine pr_upd (ga_Pn (KE_4856 ha16.1 ha16.2) rfl) (fun D97 => ?_)
  refine pr_upd (ga_Pn (KE_4856 ha16.1 ha16.2) rfl) (fun D111 => ?_)
  refine pr_bind (g_X21_isGood_pr) (fun r115 D115 => ?_)
  refine pr_ite (fun c118 => ?_) (fun c118 => ?_)
  refine pr_upd (ga_Pn (KE_4856 ha23.1 ha23.2) rfl) (fun D154 => ?_)
  refine pr_upd (ga_Pn (KE_4856 ha23.1 ha23.2) rfl) (fun D160 => ?_)
  refine g_X21_mix_l166_pr (fun D193 => ?_) _ _ _ _ _ 
  exact pr_some
  refine pr_upd (ga_Pn (KE_4856 ha16.1 ha16.2) rfl) (fun D132 => ?_)
  refine pr_upd (ga_Pn (KE_4856 ha16.1 ha16.2) rfl) (fun D146 => ?_)
  exact pr_some
  exact pr_some
  exact pr_some
  exact pr_some
theorem g_X21_isPerson_pr {x0 : Int} {D : ga_D} : ga_pr D (g_X21_isPerson x0 D) := by
  unfold g_X21_isPerson
  refine pr_ite (fun c1 => ?_) (fun c1 => ?_)
  exact pr_some
  refine pr_ite (fun c7 => ?_) (fun c7 => ?_)
  exact pr_some
  exact pr_some
theorem g_X21_open_pr {x1 x2 : Int} {D : ga_D} : ga_pr D (g_X21_open x1 x2 D) := by
  unfold g_X21_open
  refine pr_bind (g_X21_isPlace_pr) (fun r2 D2 => ?_)
  refine pr_ite (fun c5 => ?_) (fun c5 => ?_)
  exact pr_some
  refine pr_bind (g_X21_isPerson_pr) (fun r9 D9 => ?_)
  refine pr_ite (fun c12 => ?_) (fun c12 => ?_)
  exact pr_some
  refine pr_ck (fun ha20 => ?_)
  refine pr_ite (fun c29 => ?_) (fun c29 => ?_)
  exact pr_some
  exact pr_some
theorem g_X21_key_pr {x1 x2 : Int} {D : ga_D} : ga_pr D (g_X21_key x1 x2 D) := by
  unfold g_X21_key
  refine pr_bind (g_X21_isPlace_pr) (fun r2 D2 => ?_)
  refine pr_ite (fun c5 => ?_) (fun c5 => ?_)
  exact pr_some
  refine pr_bind (g_X21_isPerson_pr) (fun r9 D9 => ?_)
  refine pr_ite (fun c12 => ?_) (fun c12 => ?_)
  exact pr_some
  refine pr_bind (g_X21_open_pr) (fun r18 D18 => ?_)
  refine pr_ite (fun c21 => ?_) (fun c21 => ?_)
  refine pr_ck (fun ha31 => ?_)
  refine pr_upd (ga_Pn (KE_4855 ha31.1 ha31.2) rfl) (fun D40 => ?_)
  exact pr_some
  exact pr_some
theorem g_X21_first_l4_pr  {k71 : Int → ga_D → ga_S} (hk71 : ∀ (x2 : Int) (D : ga_D), ga_pr D (k71 x2 D)) : ∀ (n : Nat) (x1 x2 x3 : Int) (D : ga_D), ga_pr D (g_X21_first_l4 n x1 x2 x3 D k71) := by
  intro n
  induction n with
  | zero => intro x1 x2 x3 D; exact pr_none
  | succ n ih =>
    intro x1 x2 x3 D
    show ga_pr D (if D 4854 3 ≤ x3 then (k71 x2 D) else (ga_ck (0 ≤ x3 ∧ x3 < 6) (if D ((x3 + 4869)) 3 ≤ 0 then (ga_let (aw_w32 (x3 + 1)) (fun v65 => g_X21_first_l4 n x1 x2 v65 D k71)) else (if D ((x3 + 4869)) 0 ≠ x1 then (ga_let (aw_w32 (x3 + 1)) (fun v65 => g_X21_first_l4 n x1 x2 v65 D k71)) else (if x2 = (-1) then (ga_let (aw_w32 (x3 + 1)) (fun v65 => g_X21_first_l4 n x1 x3 v65 D k71)) else (ga_ck (0 ≤ x2 ∧ x2 < 6) (if D ((x2 + 4869)) 5 ≤ D ((x3 + 4869)) 5 then (ga_let (aw_w32 (x3 + 1)) (fun v65 => g_X21_first_l4 n x1 x2 v65 D k71)) else (ga_let (aw_w32 (x3 + 1)) (fun v65 => g_X21_first_l4 n x1 x3 v65 D k71)))))))))
    refine pr_ite (fun c9 => ?_) (fun c9 => ?_)
    exact hk71 _ _ 
    refine pr_ck (fun ha17 => ?_)
    refine pr_ite (fun c25 => ?_) (fun c25 => ?_)
    refine pr_let (fun v65 => ?_)
    exact ih _ _ _ _ 
    refine pr_ite (fun c34 => ?_) (fun c34 => ?_)
    refine pr_let (fun v65 => ?_)
    exact ih _ _ _ _ 
    refine pr_ite (fun c39 => ?_) (fun c39 => ?_)
    refine pr_let (fun v65 => ?_)
    exact ih _ _ _ _ 
    refine pr_ck (fun ha52 => ?_)
    refine pr_ite (fun c56 => ?_) (fun c56 => ?_)
    refine pr_let (fun v65 => ?_)
    exact ih _ _ _ _ 
    refine pr_let (fun v65 => ?_)
    exact ih _ _ _ _ 
theorem g_X21_first_pr {x1 : Int} {D : ga_D} : ga_pr D (g_X21_first x1 D) := by
  unfold g_X21_first
  refine g_X21_first_l4_pr (fun x2 D71 => ?_) _ _ _ _ _ 
  exact pr_some
theorem g_X21_drill_j131_pr  {k38 : Int → Int → Int → Int → Int → ga_D → ga_S} (hk38 : ∀ (x1 x2 x3 x4 x5 : Int) (D : ga_D), ga_pr D (k38 x1 x2 x3 x4 x5 D)) (x1 x2 x3 x4 x5 s0 : Int) (D : ga_D) : ga_pr D (g_X21_drill_j131 x1 x2 x3 x4 x5 s0 D k38) := by
  unfold g_X21_drill_j131
  refine pr_ite (fun c137 => ?_) (fun c137 => ?_)
  refine pr_let (fun v146 => ?_)
  refine pr_let (fun v148 => ?_)
  exact hk38 _ _ _ _ _ _ 
  refine pr_let (fun v146 => ?_)
  refine pr_let (fun v148 => ?_)
  exact hk38 _ _ _ _ _ _ 
theorem g_X21_drill_j130_pr  {k38 : Int → Int → Int → Int → Int → ga_D → ga_S} (hk38 : ∀ (x1 x2 x3 x4 x5 : Int) (D : ga_D), ga_pr D (k38 x1 x2 x3 x4 x5 D)) (x1 x2 x3 x4 x5 : Int) (D : ga_D) : ga_pr D (g_X21_drill_j130 x1 x2 x3 x4 x5 D k38) := by
  unfold g_X21_drill_j130
  refine g_X21_drill_j131_pr (fun x1 x2 x3 x4 x5 D38 => ?_) _ _ _ _ _ _ _ 
  exact hk38 _ _ _ _ _ _ 
theorem g_X21_drill_j126_pr  {k38 : Int → Int → Int → Int → Int → ga_D → ga_S} (hk38 : ∀ (x1 x2 x3 x4 x5 : Int) (D : ga_D), ga_pr D (k38 x1 x2 x3 x4 x5 D)) (x1 x2 x3 x4 x5 : Int) (D : ga_D) : ga_pr D (g_X21_drill_j126 x1 x2 x3 x4 x5 D k38) := by
  unfold g_X21_drill_j126
  refine g_X21_drill_j131_pr (fun x1 x2 x3 x4 x5 D38 => ?_) _ _ _ _ _ _ _ 
  exact hk38 _ _ _ _ _ _ 
theorem g_X21_drill_l38_pr  {k154 : Int → Int → Int → Int → ga_D → ga_S} (hk154 : ∀ (x1 x2 x3 x4 : Int) (D : ga_D), ga_pr D (k154 x1 x2 x3 x4 D)) : ∀ (n : Nat) (x1 x2 x3 x4 x5 : Int) (D : ga_D), ga_pr D (g_X21_drill_l38 n x1 x2 x3 x4 x5 D k154) := by
  intro n
  induction n with
  | zero => intro x1 x2 x3 x4 x5 D; exact pr_none
  | succ n ih =>
    intro x1 x2 x3 x4 x5 D
    show ga_pr D (if D 4854 1 ≤ x5 then (k154 x1 x2 x3 x4 D) else (ga_ck (0 ≤ x5 ∧ x5 < 4) (ga_ck (0 ≤ x1 ∧ x1 < 4) (ga_bind (g_X22_away ((x5 + 4865)) ((x1 + 4865)) D) (fun r60 D60 => ga_ck (0 ≤ x3 ∧ x3 < 4) (ga_ck (0 ≤ x1 ∧ x1 < 4) (ga_bind (g_X22_away ((x3 + 4865)) ((x1 + 4865)) D60) (fun r77 D77 => if x5 ≠ x1 then (if x3 = x1 then (g_X21_drill_j130 x1 x2 x3 x4 x5 D77 (fun x1 x2 x3 x4 x5 D38 => g_X21_drill_l38 n x1 x2 x3 x4 x5 D38 k154)) else (if r60 < r77 then (g_X21_drill_j126 x1 x2 x3 x4 x5 D77 (fun x1 x2 x3 x4 x5 D38 => g_X21_drill_l38 n x1 x2 x3 x4 x5 D38 k154)) else (if r60 ≠ r77 then (g_X21_drill_j130 x1 x2 x3 x4 x5 D77 (fun x1 x2 x3 x4 x5 D38 => g_X21_drill_l38 n x1 x2 x3 x4 x5 D38 k154)) else (if x3 ≤ x5 then (g_X21_drill_j130 x1 x2 x3 x4 x5 D77 (fun x1 x2 x3 x4 x5 D38 => g_X21_drill_l38 n x1 x2 x3 x4 x5 D38 k154)) else (g_X21_drill_j126 x1 x2 x3 x4 x5 D77 (fun x1 x2 x3 x4 x5 D38 => g_X21_drill_l38 n x1 x2 x3 x4 x5 D38 k154)))))) else (if x3 = x1 then (g_X21_drill_j131 x1 x2 x3 x4 x5 0 D77 (fun x1 x2 x3 x4 x5 D38 => g_X21_drill_l38 n x1 x2 x3 x4 x5 D38 k154)) else (g_X21_drill_j131 x1 x2 x3 x4 x5 1 D77 (fun x1 x2 x3 x4 x5 D38 => g_X21_drill_l38 n x1 x2 x3 x4 x5 D38 k154)))))))))))
    refine pr_ite (fun c44 => ?_) (fun c44 => ?_)
    exact hk154 _ _ _ _ _ 
    refine pr_ck (fun ha53 => ?_)
    refine pr_ck (fun ha59 => ?_)
    refine pr_bind (g_X22_away_pr) (fun r60 D60 => ?_)
    refine pr_ck (fun ha70 => ?_)
    refine pr_ck (fun ha76 => ?_)
    refine pr_bind (g_X22_away_pr) (fun r77 D77 => ?_)
    refine pr_ite (fun c85 => ?_) (fun c85 => ?_)
    refine pr_ite (fun c103 => ?_) (fun c103 => ?_)
    refine g_X21_drill_j130_pr (fun x1 x2 x3 x4 x5 D38 => ?_) _ _ _ _ _ _ 
    exact ih _ _ _ _ _ _ 
    refine pr_ite (fun c110 => ?_) (fun c110 => ?_)
    refine g_X21_drill_j126_pr (fun x1 x2 x3 x4 x5 D38 => ?_) _ _ _ _ _ _ 
    exact ih _ _ _ _ _ _ 
    refine pr_ite (fun c117 => ?_) (fun c117 => ?_)
    refine g_X21_drill_j130_pr (fun x1 x2 x3 x4 x5 D38 => ?_) _ _ _ _ _ _ 
    exact ih _ _ _ _ _ _ 
    refine pr_ite (fun c123 => ?_) (fun c123 => ?_)
    refine g_X21_drill_j130_pr (fun x1 x2 x3 x4 x5 D38 => ?_) _ _ _ _ _ _ 
    exact ih _ _ _ _ _ _ 
    refine g_X21_drill_j126_pr (fun x1 x2 x3 x4 x5 D38 => ?_) _ _ _ _ _ _ 
    exact ih _ _ _ _ _ _ 
    refine pr_ite (fun c90 => ?_) (fun c90 => ?_)
    refine g_X21_drill_j131_pr (fun x1 x2 x3 x4 x5 D38 => ?_) _ _ _ _ _ _ _ 
    exact ih _ _ _ _ _ _ 
    refine g_X21_drill_j131_pr (fun x1 x2 x3 x4 x5 D38 => ?_) _ _ _ _ _ _ _ 
    exact ih _ _ _ _ _ _ 
theorem g_X21_drill_l24_pr  {k160 : Int → ga_D → ga_S} {k168 : ga_D → ga_S} (hk160 : ∀ (x3 : Int) (D : ga_D), ga_pr D (k160 x3 D)) (hk168 : ∀ (D : ga_D), ga_pr D (k168 D)) : ∀ (n : Nat) (x1 x2 x3 : Int) (D : ga_D), ga_pr D (g_X21_drill_l24 n x1 x2 x3 D k160 k168) := by
  intro n
  induction n with
  | zero => intro x1 x2 x3 D; exact pr_none
  | succ n ih =>
    intro x1 x2 x3 D
    show ga_pr D (if D 4854 1 ≤ x3 then (k168 D) else (g_X21_drill_l38 aw_fu x1 x2 x3 0 0 D (fun x1 x2 x3 x4 D154 => if x4 ≠ x2 then (ga_let (aw_w32 (x3 + 1)) (fun v162 => g_X21_drill_l24 n x1 x2 v162 D154 k160 k168)) else (k160 x3 D154))))
    refine pr_ite (fun c29 => ?_) (fun c29 => ?_)
    exact hk168 _ 
    refine g_X21_drill_l38_pr (fun x1 x2 x3 x4 D154 => ?_) _ _ _ _ _ _ _ 
    refine pr_ite (fun c157 => ?_) (fun c157 => ?_)
    refine pr_let (fun v162 => ?_)
    exact ih _ _ _ _ 
    exact hk160 _ _ 
theorem g_X21_drill_pr {x1 x2 : Int} {D : ga_D} : ga_pr D (g_X21_drill x1 x2 D) := by
  unfold g_X21_drill
  refine pr_bind (g_X21_isPlace_pr) (fun r2 D2 => ?_)
  refine pr_ite (fun c5 => ?_) (fun c5 => ?_)
  exact pr_some
  refine pr_ite (fun c9 => ?_) (fun c9 => ?_)
  exact pr_some
  refine pr_ite (fun c17 => ?_) (fun c17 => ?_)
  refine g_X21_drill_l24_pr (fun x3 D160 => ?_) (fun D168 => ?_) _ _ _ _ _ 
  exact pr_some
  exact pr_some
  exact pr_some
theorem g_X21_inspect_pr {x1 x2 : Int} {D : ga_D} : ga_pr D (g_X21_inspect x1 x2 D) := by
  unfold g_X21_inspect
  refine pr_bind (g_X21_isPlace_pr) (fun r2 D2 => ?_)
  refine pr_ite (fun c5 => ?_) (fun c5 => ?_)
  exact pr_some
  refine pr_bind (g_X21_isIn_pr) (fun r13 D13 => ?_)
  refine pr_ite (fun c16 => ?_) (fun c16 => ?_)
  exact pr_some
  refine pr_ck (fun ha25 => ?_)
  refine pr_ite (fun c31 => ?_) (fun c31 => ?_)
  refine pr_ck (fun ha41 => ?_)
  refine pr_let (fun v45 => ?_)
  refine pr_ck (fun ha52 => ?_)
  refine pr_upd (ga_Pn (KE_4855 ha52.1 ha52.2) rfl) (fun D55 => ?_)
  refine pr_ite (fun c61 => ?_) (fun c61 => ?_)
  exact pr_some
  exact pr_some
  exact pr_some
