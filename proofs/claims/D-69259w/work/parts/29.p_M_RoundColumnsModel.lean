theorem g_X52_columnSet_l4_pr  {k24 : Int → ga_D → ga_S} {k35 : ga_D → ga_S} (hk24 : ∀ (x3 : Int) (D : ga_D), ga_pr D (k24 x3 D)) (hk35 : ∀ (D : ga_D), ga_pr D (k35 D)) : ∀ (n : Nat) (x1 x2 x3 : Int) (D : ga_D), ga_pr D (g_X52_columnSet_l4 n x1 x2 x3 D k24 k35) := by
  intro n
  induction n with
  | zero => intro x1 x2 x3 D; exact pr_none
  | succ n ih =>
    intro x1 x2 x3 D
    show ga_pr D (if 64 ≤ x3 then (k35 D) else (ga_ck (0 ≤ x3 ∧ x3 < 64) (if D 5217 x3 < 0 then (ga_let (aw_w32 (x3 + 1)) (fun v29 => g_X52_columnSet_l4 n x1 x2 v29 D k24 k35)) else (if x2 ≠ x1 then (ga_let (aw_w32 (x2 + 1)) (fun v26 => ga_let (aw_w32 (x3 + 1)) (fun v29 => g_X52_columnSet_l4 n x1 v26 v29 D k24 k35))) else (k24 x3 D)))))
    refine pr_ite (fun c7 => ?_) (fun c7 => ?_)
    exact hk35 _ 
    refine pr_ck (fun ha15 => ?_)
    refine pr_ite (fun c16 => ?_) (fun c16 => ?_)
    refine pr_let (fun v29 => ?_)
    exact ih _ _ _ _ 
    refine pr_ite (fun c21 => ?_) (fun c21 => ?_)
    refine pr_let (fun v26 => ?_)
    refine pr_let (fun v29 => ?_)
    exact ih _ _ _ _ 
    exact hk24 _ _ 
theorem g_X52_columnSet_pr {x1 : Int} {D : ga_D} : ga_pr D (g_X52_columnSet x1 D) := by
  unfold g_X52_columnSet
  refine g_X52_columnSet_l4_pr (fun x3 D24 => ?_) (fun D35 => ?_) _ _ _ _ _ 
  exact pr_some
  exact pr_some
theorem g_X52_has_pr {x0 x1 : Int} {D : ga_D} : ga_pr D (g_X52_has x0 x1 D) := by
  unfold g_X52_has
  refine pr_ite (fun c6 => ?_) (fun c6 => ?_)
  exact pr_some
  exact pr_some
theorem g_X52_kilogramsOf_l4_pr  {k39 : Int → ga_D → ga_S} (hk39 : ∀ (x2 : Int) (D : ga_D), ga_pr D (k39 x2 D)) : ∀ (n : Nat) (x1 x2 x3 : Int) (D : ga_D), ga_pr D (g_X52_kilogramsOf_l4 n x1 x2 x3 D k39) := by
  intro n
  induction n with
  | zero => intro x1 x2 x3 D; exact pr_none
  | succ n ih =>
    intro x1 x2 x3 D
    show ga_pr D (if D 5208 10 ≤ x3 then (k39 x2 D) else (ga_bind (g_X52_has x1 x3 D) (fun r15 D15 => if r15 = 0 then (ga_let (aw_w32 (x2 + 0)) (fun v32 => ga_let (aw_w32 (x3 + 1)) (fun v33 => g_X52_kilogramsOf_l4 n x1 v32 v33 D15 k39))) else (ga_ck (0 ≤ x3 ∧ x3 < 6) (ga_let (aw_w32 (x2 + (D15 5214 x3))) (fun v32 => ga_let (aw_w32 (x3 + 1)) (fun v33 => g_X52_kilogramsOf_l4 n x1 v32 v33 D15 k39)))))))
    refine pr_ite (fun c9 => ?_) (fun c9 => ?_)
    exact hk39 _ _ 
    refine pr_bind (g_X52_has_pr) (fun r15 D15 => ?_)
    refine pr_ite (fun c18 => ?_) (fun c18 => ?_)
    refine pr_let (fun v32 => ?_)
    refine pr_let (fun v33 => ?_)
    exact ih _ _ _ _ 
    refine pr_ck (fun ha26 => ?_)
    refine pr_let (fun v32 => ?_)
    refine pr_let (fun v33 => ?_)
    exact ih _ _ _ _ 
theorem g_X52_kilogramsOf_pr {x1 : Int} {D : ga_D} : ga_pr D (g_X52_kilogramsOf x1 D) := by
  unfold g_X52_kilogramsOf
  refine g_X52_kilogramsOf_l4_pr (fun x2 D39 => ?_) _ _ _ _ _ 
  exact pr_some
theorem g_X52_isIn_pr {x0 x2 : Int} {D : ga_D} : ga_pr D (g_X52_isIn x0 x2 D) := by
  unfold g_X52_isIn
  refine pr_ite (fun c3 => ?_) (fun c3 => ?_)
  exact pr_some
  refine pr_ite (fun c9 => ?_) (fun c9 => ?_)
  exact pr_some
  exact pr_some
theorem g_X52_bin_pr {x1 x3 : Int} {D : ga_D} : ga_pr D (g_X52_bin x1 x3 D) := by
  unfold g_X52_bin
  refine pr_upd (ga_Pn K_5208 rfl) (fun D2 => ?_)
  refine pr_ite (fun c11 => ?_) (fun c11 => ?_)
  exact pr_some
  refine pr_bind (g_X52_isIn_pr) (fun r18 D18 => ?_)
  refine pr_ite (fun c21 => ?_) (fun c21 => ?_)
  exact pr_some
  refine pr_bind (g_X52_isIn_pr) (fun r29 D29 => ?_)
  refine pr_ite (fun c32 => ?_) (fun c32 => ?_)
  refine pr_ck (fun ha47 => ?_)
  refine pr_upd (ga_Pn K_5209 rfl) (fun D47 => ?_)
  refine pr_ck (fun ha57 => ?_)
  refine pr_upd (ga_Pn K_5210 rfl) (fun D57 => ?_)
  refine pr_upd (ga_Pn K_5208 rfl) (fun D65 => ?_)
  exact pr_some
  exact pr_some
theorem g_X52_way_pr {x1 x2 x3 x4 : Int} {D : ga_D} : ga_pr D (g_X52_way x1 x2 x3 x4 D) := by
  unfold g_X52_way
  refine pr_upd (ga_Pn K_5208 rfl) (fun D2 => ?_)
  refine pr_bind (g_X52_isIn_pr) (fun r12 D12 => ?_)
  refine pr_ite (fun c15 => ?_) (fun c15 => ?_)
  exact pr_some
  refine pr_bind (g_X52_isIn_pr) (fun r25 D25 => ?_)
  refine pr_ite (fun c28 => ?_) (fun c28 => ?_)
  exact pr_some
  refine pr_ite (fun c33 => ?_) (fun c33 => ?_)
  exact pr_some
  refine pr_bind (g_X52_isIn_pr) (fun r41 D41 => ?_)
  refine pr_ite (fun c44 => ?_) (fun c44 => ?_)
  exact pr_some
  refine pr_bind (g_X52_isIn_pr) (fun r52 D52 => ?_)
  refine pr_ite (fun c55 => ?_) (fun c55 => ?_)
  refine pr_ck (fun ha71 => ?_)
  refine pr_upd (ga_Pn K_5211 rfl) (fun D71 => ?_)
  refine pr_ck (fun ha85 => ?_)
  refine pr_upd (ga_Pn K_5212 rfl) (fun D85 => ?_)
  exact pr_some
  exact pr_some
theorem g_X52_vehicle_pr {x1 x3 x4 : Int} {D : ga_D} : ga_pr D (g_X52_vehicle x1 x3 x4 D) := by
  unfold g_X52_vehicle
  refine pr_upd (ga_Pn K_5208 rfl) (fun D2 => ?_)
  refine pr_bind (g_X52_isIn_pr) (fun r9 D9 => ?_)
  refine pr_ite (fun c12 => ?_) (fun c12 => ?_)
  exact pr_some
  refine pr_bind (g_X52_isIn_pr) (fun r20 D20 => ?_)
  refine pr_ite (fun c23 => ?_) (fun c23 => ?_)
  exact pr_some
  refine pr_bind (g_X52_isIn_pr) (fun r32 D32 => ?_)
  refine pr_ite (fun c35 => ?_) (fun c35 => ?_)
  refine pr_upd (ga_Pn K_5208 rfl) (fun D43 => ?_)
  refine pr_upd (ga_Pn K_5208 rfl) (fun D48 => ?_)
  refine pr_upd (ga_Pn K_5208 rfl) (fun D54 => ?_)
  exact pr_some
  exact pr_some
theorem g_X52_branch_j61_pr  (x1 x2 x3 s0 s1 s2 : Int) (D : ga_D) : ga_pr D (g_X52_branch_j61 x1 x2 x3 s0 s1 s2 D) := by
  unfold g_X52_branch_j61
  refine pr_ck (fun ha61_0 => ?_)
  refine pr_ck (fun hg61_1 => ?_)
  refine pr_ck (fun ha61 => ?_)
  refine pr_upd (ga_Pn (ga_kp ha61_0) rfl) (fun D61 => ?_)
  refine pr_ite (fun c73 => ?_) (fun c73 => ?_)
  refine pr_ck (fun ha81 => ?_)
  refine pr_upd (ga_Pn K_5213 rfl) (fun D81 => ?_)
  exact pr_some
  refine pr_ck (fun ha81 => ?_)
  refine pr_upd (ga_Pn K_5213 rfl) (fun D81 => ?_)
  exact pr_some
theorem g_X52_branch_pr {x1 x2 x3 : Int} {D : ga_D} : ga_pr D (g_X52_branch x1 x2 x3 D) := by
  unfold g_X52_branch
  refine pr_upd (ga_Pn K_5208 rfl) (fun D2 => ?_)
  refine pr_bind (g_X52_isIn_pr) (fun r14 D14 => ?_)
  refine pr_ite (fun c17 => ?_) (fun c17 => ?_)
  exact pr_some
  refine pr_bind (g_X52_isIn_pr) (fun r29 D29 => ?_)
  refine pr_ite (fun c32 => ?_) (fun c32 => ?_)
  exact pr_some
  refine pr_ite (fun c37 => ?_) (fun c37 => ?_)
  refine pr_ite (fun c53 => ?_) (fun c53 => ?_)
  refine g_X52_branch_j61_pr _ _ _ _ _ _ _ 
  refine g_X52_branch_j61_pr _ _ _ _ _ _ _ 
  exact pr_some
theorem g_X52_clear_l7_pr  {k26 : ga_D → ga_S} (hk26 : ∀ (D : ga_D), ga_pr D (k26 D)) : ∀ (n : Nat) (x1 : Int) (D : ga_D), ga_pr D (g_X52_clear_l7 n x1 D k26) := by
  intro n
  induction n with
  | zero => intro x1 D; exact pr_none
  | succ n ih =>
    intro x1 D
    show ga_pr D (if 36 ≤ x1 then (k26 D) else (ga_ck (0 ≤ x1 ∧ x1 < 36) (ga_let (ga_set D 5213 x1 0) (fun D19 => ga_let (aw_w32 (x1 + 1)) (fun v20 => g_X52_clear_l7 n v20 D19 k26)))))
    refine pr_ite (fun c10 => ?_) (fun c10 => ?_)
    exact hk26 _ 
    refine pr_ck (fun ha19 => ?_)
    refine pr_upd (ga_Pn K_5213 rfl) (fun D19 => ?_)
    refine pr_let (fun v20 => ?_)
    exact ih _ _ 
theorem g_X52_clear_pr {D : ga_D} : ga_pr D (g_X52_clear D) := by
  unfold g_X52_clear
  refine pr_upd (ga_Pn K_5208 rfl) (fun D2 => ?_)
  refine g_X52_clear_l7_pr (fun D26 => ?_) _ _ _ 
  exact pr_some
theorem g_X52_setOf_l4_pr  {k29 : Int → ga_D → ga_S} (hk29 : ∀ (x1 : Int) (D : ga_D), ga_pr D (k29 x1 D)) : ∀ (n : Nat) (x1 x2 : Int) (D : ga_D), ga_pr D (g_X52_setOf_l4 n x1 x2 D k29) := by
  intro n
  induction n with
  | zero => intro x1 x2 D; exact pr_none
  | succ n ih =>
    intro x1 x2 D
    show ga_pr D (if D 5208 21 ≤ x2 then (k29 x1 D) else (ga_ck (0 ≤ x2 ∧ x2 < 6) (ga_let (aw_or x1 (aw_shl 1 (D 5220 x2))) (fun v22 => ga_let (aw_w32 (x2 + 1)) (fun v23 => g_X52_setOf_l4 n v22 v23 D k29)))))
    refine pr_ite (fun c9 => ?_) (fun c9 => ?_)
    exact hk29 _ _ 
    refine pr_ck (fun ha19 => ?_)
    refine pr_let (fun v22 => ?_)
    refine pr_let (fun v23 => ?_)
    exact ih _ _ _ 
theorem g_X52_setOf_pr {D : ga_D} : ga_pr D (g_X52_setOf D) := by
  unfold g_X52_setOf
  refine g_X52_setOf_l4_pr (fun x1 D29 => ?_) _ _ _ _ 
  exact pr_some
theorem g_X52_next_l43_pr  {k61 : Int → ga_D → ga_S} {k90 : ga_D → ga_S} (hk61 : ∀ (x4 : Int) (D : ga_D), ga_pr D (k61 x4 D)) (hk90 : ∀ (D : ga_D), ga_pr D (k90 D)) : ∀ (n : Nat) (x3 x4 : Int) (D : ga_D), ga_pr D (g_X52_next_l43 n x3 x4 D k61 k90) := by
  intro n
  induction n with
  | zero => intro x3 x4 D; exact pr_none
  | succ n ih =>
    intro x3 x4 D
    show ga_pr D (if D 5208 0 ≤ x4 then (k90 D) else (ga_bind (g_X52_has x3 x4 D) (fun r55 D55 => if r55 ≠ 0 then (ga_let (aw_w32 (x4 + 1)) (fun v84 => g_X52_next_l43 n x3 v84 D55 k61 k90)) else (k61 x4 D55))))
    refine pr_ite (fun c49 => ?_) (fun c49 => ?_)
    exact hk90 _ 
    refine pr_bind (g_X52_has_pr) (fun r55 D55 => ?_)
    refine pr_ite (fun c58 => ?_) (fun c58 => ?_)
    refine pr_let (fun v84 => ?_)
    exact ih _ _ _ 
    exact hk61 _ _ 
theorem g_X52_next_l35_pr  {k61 : Int → ga_D → ga_S} {k97 : ga_D → ga_S} (hk61 : ∀ (x4 : Int) (D : ga_D), ga_pr D (k61 x4 D)) (hk97 : ∀ (D : ga_D), ga_pr D (k97 D)) : ∀ (n : Nat) (x2 : Int) (D : ga_D), ga_pr D (g_X52_next_l35 n x2 D k61 k97) := by
  intro n
  induction n with
  | zero => intro x2 D; exact pr_none
  | succ n ih =>
    intro x2 D
    show ga_pr D (ga_bind (g_X52_setOf D) (fun r36 D36 => g_X52_next_l43 aw_fu r36 x2 D36 (fun x4 D61 => k61 x4 D61) (fun D90 => if D90 5208 21 ≠ 0 then (ga_let (ga_set D90 5208 21 (aw_w32 ((D90 5208 21) - 1))) (fun D106 => ga_ck (0 ≤ D106 5208 21 ∧ D106 5208 21 < 6) (ga_let (aw_w32 ((D106 5220 (D106 5208 21)) + 1)) (fun v120 => g_X52_next_l35 n v120 D106 k61 k97)))) else (k97 D90))))
    refine pr_bind (g_X52_setOf_pr) (fun r36 D36 => ?_)
    refine g_X52_next_l43_pr (fun x4 D61 => ?_) (fun D90 => ?_) _ _ _ _ 
    exact hk61 _ _ 
    refine pr_ite (fun c94 => ?_) (fun c94 => ?_)
    refine pr_upd (ga_Pn K_5208 rfl) (fun D106 => ?_)
    refine pr_ck (fun ha117 => ?_)
    refine pr_let (fun v120 => ?_)
    exact ih _ _ 
    exact hk97 _ 
theorem g_X52_next_pr {x1 : Int} {D : ga_D} : ga_pr D (g_X52_next x1 D) := by
  unfold g_X52_next
  refine pr_ite (fun c3 => ?_) (fun c3 => ?_)
  refine g_X52_next_l35_pr (fun x4 D61 => ?_) (fun D97 => ?_) _ _ _ 
  refine pr_ck (fun ha71 => ?_)
  refine pr_upd (ga_Pn K_5220 rfl) (fun D71 => ?_)
  refine pr_upd (ga_Pn K_5208 rfl) (fun D79 => ?_)
  exact pr_some
  exact pr_some
  refine pr_ite (fun c10 => ?_) (fun c10 => ?_)
  refine g_X52_next_l35_pr (fun x4 D61 => ?_) (fun D97 => ?_) _ _ _ 
  refine pr_ck (fun ha71 => ?_)
  refine pr_upd (ga_Pn K_5220 rfl) (fun D71 => ?_)
  refine pr_upd (ga_Pn K_5208 rfl) (fun D79 => ?_)
  exact pr_some
  exact pr_some
  refine pr_upd (ga_Pn K_5208 rfl) (fun D20 => ?_)
  refine pr_ck (fun ha31 => ?_)
  refine pr_let (fun v34 => ?_)
  refine g_X52_next_l35_pr (fun x4 D61 => ?_) (fun D97 => ?_) _ _ _ 
  refine pr_ck (fun ha71 => ?_)
  refine pr_upd (ga_Pn K_5220 rfl) (fun D71 => ?_)
  refine pr_upd (ga_Pn K_5208 rfl) (fun D79 => ?_)
  exact pr_some
  exact pr_some
theorem g_X52_secondsOf_j36_pr  {k52 : ga_D → ga_S} {k4 : Int → Int → ga_D → ga_S} (hk52 : ∀ (D : ga_D), ga_pr D (k52 D)) (hk4 : ∀ (x1 x2 : Int) (D : ga_D), ga_pr D (k4 x1 x2 D)) (x1 x2 s0 s1 s2 : Int) (D : ga_D) : ga_pr D (g_X52_secondsOf_j36 x1 x2 s0 s1 s2 D k52 k4) := by
  unfold g_X52_secondsOf_j36
  refine pr_ck (fun ha42 => ?_)
  refine pr_ck (fun ha46_0 => ?_)
  refine pr_ck (fun ha46 => ?_)
  refine pr_let (fun v47 => ?_)
  refine pr_ite (fun c49 => ?_) (fun c49 => ?_)
  refine pr_ck (fun ha65 => ?_)
  refine pr_ck (fun ha66 => ?_)
  refine pr_let (fun v69 => ?_)
  refine pr_let (fun v70 => ?_)
  exact hk4 _ _ _ 
  exact hk52 _ 
theorem g_X52_secondsOf_l4_pr  {k52 : ga_D → ga_S} {k76 : Int → ga_D → ga_S} (hk52 : ∀ (D : ga_D), ga_pr D (k52 D)) (hk76 : ∀ (x1 : Int) (D : ga_D), ga_pr D (k76 x1 D)) : ∀ (n : Nat) (x1 x2 : Int) (D : ga_D), ga_pr D (g_X52_secondsOf_l4 n x1 x2 D k52 k76) := by
  intro n
  induction n with
  | zero => intro x1 x2 D; exact pr_none
  | succ n ih =>
    intro x1 x2 D
    show ga_pr D (if D 5208 21 ≤ x2 then (k76 x1 D) else (if x2 ≠ 0 then (ga_ck (0 ≤ aw_w32 (x2 - 1) ∧ aw_w32 (x2 - 1) < 6) (g_X52_secondsOf_j36 x1 x2 (aw_w32 ((D 5220 (aw_w32 (x2 - 1))) + 1)) 7 5211 D (fun D52 => k52 D52) (fun x1 x2 D4 => g_X52_secondsOf_l4 n x1 x2 D4 k52 k76))) else (g_X52_secondsOf_j36 x1 x2 0 7 5211 D (fun D52 => k52 D52) (fun x1 x2 D4 => g_X52_secondsOf_l4 n x1 x2 D4 k52 k76))))
    refine pr_ite (fun c9 => ?_) (fun c9 => ?_)
    exact hk76 _ _ 
    refine pr_ite (fun c19 => ?_) (fun c19 => ?_)
    refine pr_ck (fun ha33 => ?_)
    refine g_X52_secondsOf_j36_pr (fun D52 => ?_) (fun x1 x2 D4 => ?_) _ _ _ _ _ _ 
    exact hk52 _ 
    exact ih _ _ _ 
    refine g_X52_secondsOf_j36_pr (fun D52 => ?_) (fun x1 x2 D4 => ?_) _ _ _ _ _ _ 
    exact hk52 _ 
    exact ih _ _ _ 
theorem g_X52_secondsOf_pr {D : ga_D} : ga_pr D (g_X52_secondsOf D) := by
  unfold g_X52_secondsOf
  refine g_X52_secondsOf_l4_pr (fun D52 => ?_) (fun x1 D76 => ?_) _ _ _ _ 
  exact pr_some
  exact pr_some
theorem g_X52_isRow_l4_pr  {k32 : Int → ga_D → ga_S} (hk32 : ∀ (x1 : Int) (D : ga_D), ga_pr D (k32 x1 D)) : ∀ (n : Nat) (x1 x2 : Int) (D : ga_D), ga_pr D (g_X52_isRow_l4 n x1 x2 D k32) := by
  intro n
  induction n with
  | zero => intro x1 x2 D; exact pr_none
  | succ n ih =>
    intro x1 x2 D
    show ga_pr D (if D 5208 21 ≤ x2 then (k32 x1 D) else (ga_ck (0 ≤ x2 ∧ x2 < 6) (ga_ck (0 ≤ D 5220 x2 ∧ D 5220 x2 < 6) (ga_let (aw_w32 (x1 + (D 5209 (D 5220 x2)))) (fun v25 => ga_let (aw_w32 (x2 + 1)) (fun v26 => g_X52_isRow_l4 n v25 v26 D k32))))))
    refine pr_ite (fun c9 => ?_) (fun c9 => ?_)
    exact hk32 _ _ 
    refine pr_ck (fun ha22 => ?_)
    refine pr_ck (fun ha23 => ?_)
    refine pr_let (fun v25 => ?_)
    refine pr_let (fun v26 => ?_)
    exact ih _ _ _ 
theorem g_X52_isRow_pr {D : ga_D} : ga_pr D (g_X52_isRow D) := by
  unfold g_X52_isRow
  refine g_X52_isRow_l4_pr (fun x1 D32 => ?_) _ _ _ _ 
  refine pr_bind (g_X52_secondsOf_pr) (fun r33 D33 => ?_)
  refine pr_ite (fun c42 => ?_) (fun c42 => ?_)
  exact pr_some
  refine pr_ite (fun c46 => ?_) (fun c46 => ?_)
  exact pr_some
  refine pr_ite (fun c54 => ?_) (fun c54 => ?_)
  exact pr_some
  exact pr_some
theorem g_X52_isRound_pr {D : ga_D} : ga_pr D (g_X52_isRound D) := by
  unfold g_X52_isRound
  refine pr_ck (fun ha16 => ?_)
  refine pr_ck (fun ha20 => ?_)
  refine pr_let (fun v21 => ?_)
  refine pr_bind (g_X52_isRow_pr) (fun r23 D23 => ?_)
  refine pr_ite (fun c26 => ?_) (fun c26 => ?_)
  exact pr_some
  refine pr_ite (fun c30 => ?_) (fun c30 => ?_)
  exact pr_some
  refine pr_bind (g_X52_secondsOf_pr) (fun r34 D34 => ?_)
  refine pr_ite (fun c43 => ?_) (fun c43 => ?_)
  exact pr_some
  exact pr_some
theorem g_X52_costOf_j57_pr  {k24 : Int → Int → ga_D → ga_S} (hk24 : ∀ (x1 x2 : Int) (D : ga_D), ga_pr D (k24 x1 x2 D)) (x2 s0 s1 s2 s3 : Int) (D : ga_D) : ga_pr D (g_X52_costOf_j57 x2 s0 s1 s2 s3 D k24) := by
  unfold g_X52_costOf_j57
  refine pr_ck (fun ha63 => ?_)
  refine pr_ck (fun ha67_0 => ?_)
  refine pr_ck (fun ha67 => ?_)
  refine pr_let (fun v69 => ?_)
  refine pr_let (fun v70 => ?_)
  exact hk24 _ _ _ 
theorem g_X52_costOf_l24_pr  {k76 : Int → ga_D → ga_S} (hk76 : ∀ (x1 : Int) (D : ga_D), ga_pr D (k76 x1 D)) : ∀ (n : Nat) (x1 x2 : Int) (D : ga_D), ga_pr D (g_X52_costOf_l24 n x1 x2 D k76) := by
  intro n
  induction n with
  | zero => intro x1 x2 D; exact pr_none
  | succ n ih =>
    intro x1 x2 D
    show ga_pr D (if D 5208 21 ≤ x2 then (k76 x1 D) else (if x2 ≠ 0 then (ga_ck (0 ≤ aw_w32 (x2 - 1) ∧ aw_w32 (x2 - 1) < 6) (g_X52_costOf_j57 x2 (aw_w32 ((D 5220 (aw_w32 (x2 - 1))) + 1)) 7 5212 x1 D (fun x1 x2 D24 => g_X52_costOf_l24 n x1 x2 D24 k76))) else (g_X52_costOf_j57 x2 0 7 5212 x1 D (fun x1 x2 D24 => g_X52_costOf_l24 n x1 x2 D24 k76))))
    refine pr_ite (fun c29 => ?_) (fun c29 => ?_)
    exact hk76 _ _ 
    refine pr_ite (fun c40 => ?_) (fun c40 => ?_)
    refine pr_ck (fun ha54 => ?_)
    refine g_X52_costOf_j57_pr (fun x1 x2 D24 => ?_) _ _ _ _ _ _ 
    exact ih _ _ _ 
    refine g_X52_costOf_j57_pr (fun x1 x2 D24 => ?_) _ _ _ _ _ _ 
    exact ih _ _ _ 
theorem g_X52_costOf_pr {D : ga_D} : ga_pr D (g_X52_costOf D) := by
  unfold g_X52_costOf
  refine pr_ck (fun ha16 => ?_)
  refine pr_ck (fun ha20 => ?_)
  refine pr_let (fun v21 => ?_)
  refine g_X52_costOf_l24_pr (fun x1 D76 => ?_) _ _ _ _ 
  exact pr_some
theorem g_X52_search_l2_pr  {k29 : ga_D → ga_S} (hk29 : ∀ (D : ga_D), ga_pr D (k29 D)) : ∀ (n : Nat) (x1 : Int) (D : ga_D), ga_pr D (g_X52_search_l2 n x1 D k29) := by
  intro n
  induction n with
  | zero => intro x1 D; exact pr_none
  | succ n ih =>
    intro x1 D
    show ga_pr D (if 384 ≤ x1 then (k29 D) else (ga_ck (0 ≤ x1 ∧ x1 < 384) (ga_let (ga_set D 5221 x1 0) (fun D15 => ga_ck (0 ≤ x1 ∧ x1 < 384) (ga_let (ga_set D15 5222 x1 0) (fun D22 => ga_let (aw_w32 (x1 + 1)) (fun v23 => g_X52_search_l2 n v23 D22 k29)))))))
    refine pr_ite (fun c6 => ?_) (fun c6 => ?_)
    exact hk29 _ 
    refine pr_ck (fun ha15 => ?_)
    refine pr_upd (ga_Pn K_5221 rfl) (fun D15 => ?_)
    refine pr_ck (fun ha22 => ?_)
    refine pr_upd (ga_Pn K_5222 rfl) (fun D22 => ?_)
    refine pr_let (fun v23 => ?_)
    exact ih _ _ 
theorem g_X52_search_l31_pr  {k50 : ga_D → ga_S} (hk50 : ∀ (D : ga_D), ga_pr D (k50 D)) : ∀ (n : Nat) (x1 : Int) (D : ga_D), ga_pr D (g_X52_search_l31 n x1 D k50) := by
  intro n
  induction n with
  | zero => intro x1 D; exact pr_none
  | succ n ih =>
    intro x1 D
    show ga_pr D (if 64 ≤ x1 then (k50 D) else (ga_ck (0 ≤ x1 ∧ x1 < 64) (ga_let (ga_set D 5223 x1 (-1)) (fun D43 => ga_let (aw_w32 (x1 + 1)) (fun v44 => g_X52_search_l31 n v44 D43 k50)))))
    refine pr_ite (fun c34 => ?_) (fun c34 => ?_)
    exact hk50 _ 
    refine pr_ck (fun ha43 => ?_)
    refine pr_upd (ga_Pn K_5223 rfl) (fun D43 => ?_)
    refine pr_let (fun v44 => ?_)
    exact ih _ _ 
theorem g_X52_search_j226_pr  {k63 : Int → Int → ga_D → ga_S} (hk63 : ∀ (x1 x2 : Int) (D : ga_D), ga_pr D (k63 x1 x2 D)) (x1 x3 : Int) (D : ga_D) : ga_pr D (g_X52_search_j226 x1 x3 D k63) := by
  unfold g_X52_search_j226
  refine pr_bind (g_X52_next_pr) (fun r228 D228 => ?_)
  exact hk63 _ _ _ 
theorem g_X52_search_l180_pr  {k226 : Int → Int → ga_D → ga_S} (hk226 : ∀ (x1 x3 : Int) (D : ga_D), ga_pr D (k226 x1 x3 D)) : ∀ (n : Nat) (x1 x3 x4 x6 : Int) (D : ga_D), ga_pr D (g_X52_search_l180 n x1 x3 x4 x6 D k226) := by
  intro n
  induction n with
  | zero => intro x1 x3 x4 x6 D; exact pr_none
  | succ n ih =>
    intro x1 x3 x4 x6 D
    show ga_pr D (if 6 ≤ x6 then (k226 x1 x3 D) else (if D 5208 21 ≤ x6 then (ga_ck (0 ≤ aw_w32 ((aw_w32 (6 * x4)) + x6) ∧ aw_w32 ((aw_w32 (6 * x4)) + x6) < 384) (ga_let (ga_set D 5224 (aw_w32 ((aw_w32 (6 * x4)) + x6)) (-1)) (fun D219 => ga_let (aw_w32 (x6 + 1)) (fun v220 => g_X52_search_l180 n x1 x3 x4 v220 D219 k226)))) else (ga_ck (0 ≤ x6 ∧ x6 < 6) (ga_ck (0 ≤ aw_w32 ((aw_w32 (6 * x4)) + x6) ∧ aw_w32 ((aw_w32 (6 * x4)) + x6) < 384) (ga_let (ga_set D 5224 (aw_w32 ((aw_w32 (6 * x4)) + x6)) (D 5220 x6)) (fun D219 => ga_let (aw_w32 (x6 + 1)) (fun v220 => g_X52_search_l180 n x1 x3 x4 v220 D219 k226)))))))
    refine pr_ite (fun c184 => ?_) (fun c184 => ?_)
    exact hk226 _ _ _ 
    refine pr_ite (fun c205 => ?_) (fun c205 => ?_)
    refine pr_ck (fun ha219 => ?_)
    refine pr_upd (ga_Pn K_5224 rfl) (fun D219 => ?_)
    refine pr_let (fun v220 => ?_)
    exact ih _ _ _ _ _ 
    refine pr_ck (fun ha214 => ?_)
    refine pr_ck (fun ha219 => ?_)
    refine pr_upd (ga_Pn K_5224 rfl) (fun D219 => ?_)
    refine pr_let (fun v220 => ?_)
    exact ih _ _ _ _ _ 
theorem g_X52_search_j166_pr  {k63 : Int → Int → ga_D → ga_S} (hk63 : ∀ (x1 x2 : Int) (D : ga_D), ga_pr D (k63 x1 x2 D)) (x1 x3 x4 : Int) (D : ga_D) : ga_pr D (g_X52_search_j166 x1 x3 x4 D k63) := by
  unfold g_X52_search_j166
  refine pr_bind (g_X52_costOf_pr) (fun r173 D173 => ?_)
  refine pr_ck (fun ha176 => ?_)
  refine pr_upd (ga_Pn K_5223 rfl) (fun D176 => ?_)
  refine g_X52_search_l180_pr (fun x1 x3 D226 => ?_) _ _ _ _ _ _ 
  refine g_X52_search_j226_pr (fun x1 x2 D63 => ?_) _ _ _ 
  exact hk63 _ _ _ 
theorem g_X52_search_j117_pr  {k63 : Int → Int → ga_D → ga_S} (hk63 : ∀ (x1 x2 : Int) (D : ga_D), ga_pr D (k63 x1 x2 D)) (x3 x4 x5 s0 s1 : Int) (D : ga_D) : ga_pr D (g_X52_search_j117 x3 x4 x5 s0 s1 D k63) := by
  unfold g_X52_search_j117
  refine pr_let (fun v118 => ?_)
  refine pr_ck (fun ha126 => ?_)
  refine pr_upd (ga_Pn K_5221 rfl) (fun D126 => ?_)
  refine pr_bind (g_X52_isRound_pr) (fun r128 D128 => ?_)
  refine pr_ite (fun c131 => ?_) (fun c131 => ?_)
  refine g_X52_search_j226_pr (fun x1 x2 D63 => ?_) _ _ _ 
  exact hk63 _ _ _ 
  refine pr_ck (fun ha141 => ?_)
  refine pr_upd (ga_Pn K_5222 rfl) (fun D141 => ?_)
  refine pr_ck (fun ha148 => ?_)
  refine pr_ite (fun c149 => ?_) (fun c149 => ?_)
  refine g_X52_search_j166_pr (fun x1 x2 D63 => ?_) _ _ _ _ 
  exact hk63 _ _ _ 
  refine pr_bind (g_X52_costOf_pr) (fun r153 D153 => ?_)
  refine pr_ck (fun ha162 => ?_)
  refine pr_ite (fun c163 => ?_) (fun c163 => ?_)
  refine g_X52_search_j226_pr (fun x1 x2 D63 => ?_) _ _ _ 
  exact hk63 _ _ _ 
  refine g_X52_search_j166_pr (fun x1 x2 D63 => ?_) _ _ _ _ 
  exact hk63 _ _ _ 
theorem g_X52_search_l63_pr  {k235 : Int → ga_D → ga_S} (hk235 : ∀ (x1 : Int) (D : ga_D), ga_pr D (k235 x1 D)) : ∀ (n : Nat) (x1 x2 : Int) (D : ga_D), ga_pr D (g_X52_search_l63 n x1 x2 D k235) := by
  intro n
  induction n with
  | zero => intro x1 x2 D; exact pr_none
  | succ n ih =>
    intro x1 x2 D
    show ga_pr D (if x2 = 0 then (k235 x1 D) else (ga_bind (g_X52_isRow D) (fun r68 D68 => if r68 = 0 then (g_X52_search_j226 x1 r68 D68 (fun x1 x2 D63 => g_X52_search_l63 n x1 x2 D63 k235)) else (ga_bind (g_X52_setOf D68) (fun r77 D77 => ga_ck (0 ≤ aw_w32 ((D77 5208 21) - 1) ∧ aw_w32 ((D77 5208 21) - 1) < 6) (ga_let (aw_w32 ((aw_w32 (6 * r77)) + (D77 5220 (aw_w32 ((D77 5208 21) - 1))))) (fun v99 => ga_ck (0 ≤ v99 ∧ v99 < 384) (if D77 5221 v99 = 0 then (g_X52_search_j117 r68 r77 v99 1 x1 D77 (fun x1 x2 D63 => g_X52_search_l63 n x1 x2 D63 k235)) else (g_X52_search_j117 r68 r77 v99 0 x1 D77 (fun x1 x2 D63 => g_X52_search_l63 n x1 x2 D63 k235))))))))))
    refine pr_ite (fun c64 => ?_) (fun c64 => ?_)
    exact hk235 _ _ 
    refine pr_bind (g_X52_isRow_pr) (fun r68 D68 => ?_)
    refine pr_ite (fun c73 => ?_) (fun c73 => ?_)
    refine g_X52_search_j226_pr (fun x1 x2 D63 => ?_) _ _ _ 
    exact ih _ _ _ 
    refine pr_bind (g_X52_setOf_pr) (fun r77 D77 => ?_)
    refine pr_ck (fun ha97 => ?_)
    refine pr_let (fun v99 => ?_)
    refine pr_ck (fun ha108 => ?_)
    refine pr_ite (fun c109 => ?_) (fun c109 => ?_)
    refine g_X52_search_j117_pr (fun x1 x2 D63 => ?_) _ _ _ _ _ _ 
    exact ih _ _ _ 
    refine g_X52_search_j117_pr (fun x1 x2 D63 => ?_) _ _ _ _ _ _ 
    exact ih _ _ _ 
theorem g_X52_search_pr {D : ga_D} : ga_pr D (g_X52_search D) := by
  unfold g_X52_search
  refine g_X52_search_l2_pr (fun D29 => ?_) _ _ _ 
  refine g_X52_search_l31_pr (fun D50 => ?_) _ _ _ 
  refine pr_upd (ga_Pn K_5208 rfl) (fun D54 => ?_)
  refine pr_bind (g_X52_next_pr) (fun r59 D59 => ?_)
  refine g_X52_search_l63_pr (fun x1 D235 => ?_) _ _ _ _ 
  exact pr_some
theorem g_X52_isBarred_j59_pr  {k15 : Int → Int → Int → Int → ga_D → ga_S} (hk15 : ∀ (x1 x2 x3 x4 : Int) (D : ga_D), ga_pr D (k15 x1 x2 x3 x4 D)) (x1 x3 x4 x5 : Int) (D : ga_D) : ga_pr D (g_X52_isBarred_j59 x1 x3 x4 x5 D k15) := by
  unfold g_X52_isBarred_j59
  refine pr_ite (fun c62 => ?_) (fun c62 => ?_)
  refine pr_let (fun v88 => ?_)
  exact hk15 _ _ _ _ _ 
  refine pr_bind (g_X52_has_pr) (fun r67 D67 => ?_)
  refine pr_ite (fun c70 => ?_) (fun c70 => ?_)
  refine pr_let (fun v88 => ?_)
  exact hk15 _ _ _ _ _ 
  refine pr_bind (g_X52_has_pr) (fun r76 D76 => ?_)
  refine pr_ite (fun c79 => ?_) (fun c79 => ?_)
  refine pr_let (fun v88 => ?_)
  exact hk15 _ _ _ _ _ 
  refine pr_let (fun v88 => ?_)
  exact hk15 _ _ _ _ _ 
theorem g_X52_isBarred_l15_pr  {k94 : Int → Int → Int → ga_D → ga_S} (hk94 : ∀ (x1 x2 x3 : Int) (D : ga_D), ga_pr D (k94 x1 x2 x3 D)) : ∀ (n : Nat) (x1 x2 x3 x4 : Int) (D : ga_D), ga_pr D (g_X52_isBarred_l15 n x1 x2 x3 x4 D k94) := by
  intro n
  induction n with
  | zero => intro x1 x2 x3 x4 D; exact pr_none
  | succ n ih =>
    intro x1 x2 x3 x4 D
    show ga_pr D (if x3 ≤ x4 then (k94 x1 x2 x3 D) else (ga_ck (0 ≤ aw_w32 ((aw_w32 (6 * x3)) + x4) ∧ aw_w32 ((aw_w32 (6 * x3)) + x4) < 36) (ga_let (D 5213 (aw_w32 ((aw_w32 (6 * x3)) + x4))) (fun v33 => if x2 ≠ 0 then (ga_let (aw_w32 (x4 + 1)) (fun v88 => g_X52_isBarred_l15 n x1 1 x3 v88 D k94)) else (if v33 ≠ 1 then (g_X52_isBarred_j59 x1 x3 x4 v33 D (fun x1 x2 x3 x4 D15 => g_X52_isBarred_l15 n x1 x2 x3 x4 D15 k94)) else (ga_bind (g_X52_has x1 x3 D) (fun r47 D47 => ga_bind (g_X52_has x1 x4 D47) (fun r53 D53 => if r47 ≠ r53 then (ga_let (aw_w32 (x4 + 1)) (fun v88 => g_X52_isBarred_l15 n x1 1 x3 v88 D53 k94)) else (g_X52_isBarred_j59 x1 x3 x4 v33 D53 (fun x1 x2 x3 x4 D15 => g_X52_isBarred_l15 n x1 x2 x3 x4 D15 k94))))))))))
    refine pr_ite (fun c18 => ?_) (fun c18 => ?_)
    exact hk94 _ _ _ _ 
    refine pr_ck (fun ha32 => ?_)
    refine pr_let (fun v33 => ?_)
    refine pr_ite (fun c36 => ?_) (fun c36 => ?_)
    refine pr_let (fun v88 => ?_)
    exact ih _ _ _ _ _ 
    refine pr_ite (fun c42 => ?_) (fun c42 => ?_)
    refine g_X52_isBarred_j59_pr (fun x1 x2 x3 x4 D15 => ?_) _ _ _ _ _ 
    exact ih _ _ _ _ _ 
    refine pr_bind (g_X52_has_pr) (fun r47 D47 => ?_)
    refine pr_bind (g_X52_has_pr) (fun r53 D53 => ?_)
    refine pr_ite (fun c56 => ?_) (fun c56 => ?_)
    refine pr_let (fun v88 => ?_)
    exact ih _ _ _ _ _ 
    refine g_X52_isBarred_j59_pr (fun x1 x2 x3 x4 D15 => ?_) _ _ _ _ _ 
    exact ih _ _ _ _ _ 
theorem g_X52_isBarred_l4_pr  {k100 : Int → ga_D → ga_S} (hk100 : ∀ (x2 : Int) (D : ga_D), ga_pr D (k100 x2 D)) : ∀ (n : Nat) (x1 x2 x3 : Int) (D : ga_D), ga_pr D (g_X52_isBarred_l4 n x1 x2 x3 D k100) := by
  intro n
  induction n with
  | zero => intro x1 x2 x3 D; exact pr_none
  | succ n ih =>
    intro x1 x2 x3 D
    show ga_pr D (if D 5208 0 ≤ x3 then (k100 x2 D) else (g_X52_isBarred_l15 aw_fu x1 x2 x3 0 D (fun x1 x2 x3 D94 => ga_let (aw_w32 (x3 + 1)) (fun v94 => g_X52_isBarred_l4 n x1 x2 v94 D94 k100))))
    refine pr_ite (fun c9 => ?_) (fun c9 => ?_)
    exact hk100 _ _ 
    refine g_X52_isBarred_l15_pr (fun x1 x2 x3 D94 => ?_) _ _ _ _ _ _ 
    refine pr_let (fun v94 => ?_)
    exact ih _ _ _ _ 
theorem g_X52_isBarred_pr {x1 : Int} {D : ga_D} : ga_pr D (g_X52_isBarred x1 D) := by
  unfold g_X52_isBarred
  refine g_X52_isBarred_l4_pr (fun x2 D100 => ?_) _ _ _ _ _ 
  refine pr_ck (fun hr101 => ?_)
  exact pr_some
theorem g_X52_all_pr {D : ga_D} : ga_pr D (g_X52_all D) := by
  unfold g_X52_all
  exact pr_some
theorem g_X52_common_l17_pr  {k42 : Int → ga_D → ga_S} (hk42 : ∀ (x6 : Int) (D : ga_D), ga_pr D (k42 x6 D)) : ∀ (n : Nat) (x4 x6 : Int) (D : ga_D), ga_pr D (g_X52_common_l17 n x4 x6 D k42) := by
  intro n
  induction n with
  | zero => intro x4 x6 D; exact pr_none
  | succ n ih =>
    intro x4 x6 D
    show ga_pr D (if x4 = 0 then (k42 x6 D) else (ga_ck (x4 ≠ 0) (ga_let (Int.tmod x6 x4) (fun v29 => g_X52_common_l17 n v29 x4 D k42))))
    refine pr_ite (fun c21 => ?_) (fun c21 => ?_)
    exact hk42 _ _ 
    refine pr_ck (fun hz28 => ?_)
    refine pr_let (fun v29 => ?_)
    exact ih _ _ _ 
theorem g_X52_common_pr {x0 x2 : Int} {D : ga_D} : ga_pr D (g_X52_common x0 x2 D) := by
  unfold g_X52_common
  refine pr_ite (fun c3 => ?_) (fun c3 => ?_)
  refine g_X52_common_l17_pr (fun x6 D42 => ?_) _ _ _ _ 
  exact pr_some
  refine pr_let (fun v12 => ?_)
  refine g_X52_common_l17_pr (fun x6 D42 => ?_) _ _ _ _ 
  exact pr_some
theorem g_X52_put_pr {x1 x2 x4 : Int} {D : ga_D} : ga_pr D (g_X52_put x1 x2 x4 D) := by
  unfold g_X52_put
  refine pr_bind (g_X52_common_pr) (fun r3 D3 => ?_)
  refine pr_ck (fun hz16 => ?_)
  refine pr_ck (fun ha17 => ?_)
  refine pr_upd (ga_Pn K_5225 rfl) (fun D17 => ?_)
  refine pr_ck (fun hz27 => ?_)
  refine pr_ck (fun ha28 => ?_)
  refine pr_upd (ga_Pn K_5226 rfl) (fun D28 => ?_)
  exact pr_some
theorem g_X52_layOut_j161_pr  {k10 : Int → Int → Int → ga_D → ga_S} (hk10 : ∀ (x1 x2 x3 : Int) (D : ga_D), ga_pr D (k10 x1 x2 x3 D)) (x1 x2 x3 s0 : Int) (D : ga_D) : ga_pr D (g_X52_layOut_j161 x1 x2 x3 s0 D k10) := by
  unfold g_X52_layOut_j161
  refine pr_bind (g_X52_put_pr) (fun r173 D173 => ?_)
  refine pr_let (fun v176 => ?_)
  exact hk10 _ _ _ _ 
theorem g_X52_layOut_j151_pr  {k10 : Int → Int → Int → ga_D → ga_S} (hk10 : ∀ (x1 x2 x3 : Int) (D : ga_D), ga_pr D (k10 x1 x2 x3 D)) (x1 x2 x3 x4 : Int) (D : ga_D) : ga_pr D (g_X52_layOut_j151 x1 x2 x3 x4 D k10) := by
  unfold g_X52_layOut_j151
  refine pr_ite (fun c153 => ?_) (fun c153 => ?_)
  refine g_X52_layOut_j161_pr (fun x1 x2 x3 D10 => ?_) _ _ _ _ _ 
  exact hk10 _ _ _ _ 
  refine g_X52_layOut_j161_pr (fun x1 x2 x3 D10 => ?_) _ _ _ _ _ 
  exact hk10 _ _ _ _ 
theorem g_X52_layOut_j129_pr  {k10 : Int → Int → Int → ga_D → ga_S} (hk10 : ∀ (x1 x2 x3 : Int) (D : ga_D), ga_pr D (k10 x1 x2 x3 D)) (x1 x2 x3 s0 : Int) (D : ga_D) : ga_pr D (g_X52_layOut_j129 x1 x2 x3 s0 D k10) := by
  unfold g_X52_layOut_j129
  refine pr_ite (fun c134 => ?_) (fun c134 => ?_)
  refine g_X52_layOut_j151_pr (fun x1 x2 x3 D10 => ?_) _ _ _ _ _ 
  exact hk10 _ _ _ _ 
  refine pr_ite (fun c140 => ?_) (fun c140 => ?_)
  refine g_X52_layOut_j151_pr (fun x1 x2 x3 D10 => ?_) _ _ _ _ _ 
  exact hk10 _ _ _ _ 
  refine g_X52_layOut_j161_pr (fun x1 x2 x3 D10 => ?_) _ _ _ _ _ 
  exact hk10 _ _ _ _ 
theorem g_X52_layOut_j124_pr  {k10 : Int → Int → Int → ga_D → ga_S} (hk10 : ∀ (x1 x2 x3 : Int) (D : ga_D), ga_pr D (k10 x1 x2 x3 D)) (x1 x2 x3 : Int) (D : ga_D) : ga_pr D (g_X52_layOut_j124 x1 x2 x3 D k10) := by
  unfold g_X52_layOut_j124
  refine g_X52_layOut_j129_pr (fun x1 x2 x3 D10 => ?_) _ _ _ _ _ 
  exact hk10 _ _ _ _ 
theorem g_X52_layOut_j128_pr  {k10 : Int → Int → Int → ga_D → ga_S} (hk10 : ∀ (x1 x2 x3 : Int) (D : ga_D), ga_pr D (k10 x1 x2 x3 D)) (x1 x2 x3 : Int) (D : ga_D) : ga_pr D (g_X52_layOut_j128 x1 x2 x3 D k10) := by
  unfold g_X52_layOut_j128
  refine g_X52_layOut_j129_pr (fun x1 x2 x3 D10 => ?_) _ _ _ _ _ 
  exact hk10 _ _ _ _ 
theorem g_X52_layOut_j97_pr  {k10 : Int → Int → Int → ga_D → ga_S} (hk10 : ∀ (x1 x2 x3 : Int) (D : ga_D), ga_pr D (k10 x1 x2 x3 D)) (x1 x2 x3 s0 : Int) (D : ga_D) : ga_pr D (g_X52_layOut_j97 x1 x2 x3 s0 D k10) := by
  unfold g_X52_layOut_j97
  refine pr_ite (fun c101 => ?_) (fun c101 => ?_)
  refine g_X52_layOut_j124_pr (fun x1 x2 x3 D10 => ?_) _ _ _ _ 
  exact hk10 _ _ _ _ 
  refine pr_ite (fun c107 => ?_) (fun c107 => ?_)
  refine g_X52_layOut_j128_pr (fun x1 x2 x3 D10 => ?_) _ _ _ _ 
  exact hk10 _ _ _ _ 
  refine pr_ite (fun c113 => ?_) (fun c113 => ?_)
  refine g_X52_layOut_j124_pr (fun x1 x2 x3 D10 => ?_) _ _ _ _ 
  exact hk10 _ _ _ _ 
  refine pr_ite (fun c121 => ?_) (fun c121 => ?_)
  refine g_X52_layOut_j128_pr (fun x1 x2 x3 D10 => ?_) _ _ _ _ 
  exact hk10 _ _ _ _ 
  refine g_X52_layOut_j124_pr (fun x1 x2 x3 D10 => ?_) _ _ _ _ 
  exact hk10 _ _ _ _ 
theorem g_X52_layOut_j92_pr  {k10 : Int → Int → Int → ga_D → ga_S} (hk10 : ∀ (x1 x2 x3 : Int) (D : ga_D), ga_pr D (k10 x1 x2 x3 D)) (x1 x2 x3 : Int) (D : ga_D) : ga_pr D (g_X52_layOut_j92 x1 x2 x3 D k10) := by
  unfold g_X52_layOut_j92
  refine g_X52_layOut_j97_pr (fun x1 x2 x3 D10 => ?_) _ _ _ _ _ 
  exact hk10 _ _ _ _ 
theorem g_X52_layOut_j96_pr  {k10 : Int → Int → Int → ga_D → ga_S} (hk10 : ∀ (x1 x2 x3 : Int) (D : ga_D), ga_pr D (k10 x1 x2 x3 D)) (x1 x2 x3 : Int) (D : ga_D) : ga_pr D (g_X52_layOut_j96 x1 x2 x3 D k10) := by
  unfold g_X52_layOut_j96
  refine g_X52_layOut_j97_pr (fun x1 x2 x3 D10 => ?_) _ _ _ _ _ 
  exact hk10 _ _ _ _ 
theorem g_X52_layOut_j63_pr  {k10 : Int → Int → Int → ga_D → ga_S} (hk10 : ∀ (x1 x2 x3 : Int) (D : ga_D), ga_pr D (k10 x1 x2 x3 D)) (x1 x2 x3 s0 : Int) (D : ga_D) : ga_pr D (g_X52_layOut_j63 x1 x2 x3 s0 D k10) := by
  unfold g_X52_layOut_j63
  refine pr_ite (fun c67 => ?_) (fun c67 => ?_)
  refine g_X52_layOut_j92_pr (fun x1 x2 x3 D10 => ?_) _ _ _ _ 
  exact hk10 _ _ _ _ 
  refine pr_ite (fun c73 => ?_) (fun c73 => ?_)
  refine g_X52_layOut_j96_pr (fun x1 x2 x3 D10 => ?_) _ _ _ _ 
  exact hk10 _ _ _ _ 
  refine pr_bind (g_X52_has_pr) (fun r78 D78 => ?_)
  refine pr_ite (fun c81 => ?_) (fun c81 => ?_)
  refine g_X52_layOut_j96_pr (fun x1 x2 x3 D10 => ?_) _ _ _ _ 
  exact hk10 _ _ _ _ 
  refine pr_ite (fun c89 => ?_) (fun c89 => ?_)
  refine g_X52_layOut_j96_pr (fun x1 x2 x3 D10 => ?_) _ _ _ _ 
  exact hk10 _ _ _ _ 
  refine g_X52_layOut_j92_pr (fun x1 x2 x3 D10 => ?_) _ _ _ _ 
  exact hk10 _ _ _ _ 
theorem g_X52_layOut_j62_pr  {k10 : Int → Int → Int → ga_D → ga_S} (hk10 : ∀ (x1 x2 x3 : Int) (D : ga_D), ga_pr D (k10 x1 x2 x3 D)) (x1 x2 x3 : Int) (D : ga_D) : ga_pr D (g_X52_layOut_j62 x1 x2 x3 D k10) := by
  unfold g_X52_layOut_j62
  refine g_X52_layOut_j63_pr (fun x1 x2 x3 D10 => ?_) _ _ _ _ _ 
  exact hk10 _ _ _ _ 
theorem g_X52_layOut_j58_pr  {k10 : Int → Int → Int → ga_D → ga_S} (hk10 : ∀ (x1 x2 x3 : Int) (D : ga_D), ga_pr D (k10 x1 x2 x3 D)) (x1 x2 x3 : Int) (D : ga_D) : ga_pr D (g_X52_layOut_j58 x1 x2 x3 D k10) := by
  unfold g_X52_layOut_j58
  refine g_X52_layOut_j63_pr (fun x1 x2 x3 D10 => ?_) _ _ _ _ _ 
  exact hk10 _ _ _ _ 
theorem g_X52_layOut_j44_pr  {k10 : Int → Int → Int → ga_D → ga_S} (hk10 : ∀ (x1 x2 x3 : Int) (D : ga_D), ga_pr D (k10 x1 x2 x3 D)) (x1 x2 x3 : Int) (D : ga_D) : ga_pr D (g_X52_layOut_j44 x1 x2 x3 D k10) := by
  unfold g_X52_layOut_j44
  refine pr_ite (fun c49 => ?_) (fun c49 => ?_)
  refine g_X52_layOut_j58_pr (fun x1 x2 x3 D10 => ?_) _ _ _ _ 
  exact hk10 _ _ _ _ 
  refine pr_ite (fun c55 => ?_) (fun c55 => ?_)
  refine g_X52_layOut_j62_pr (fun x1 x2 x3 D10 => ?_) _ _ _ _ 
  exact hk10 _ _ _ _ 
  refine g_X52_layOut_j58_pr (fun x1 x2 x3 D10 => ?_) _ _ _ _ 
  exact hk10 _ _ _ _ 
theorem g_X52_layOut_l10_pr  {k182 : Int → Int → ga_D → ga_S} (hk182 : ∀ (x1 x2 : Int) (D : ga_D), ga_pr D (k182 x1 x2 D)) : ∀ (n : Nat) (x1 x2 x3 : Int) (D : ga_D), ga_pr D (g_X52_layOut_l10 n x1 x2 x3 D k182) := by
  intro n
  induction n with
  | zero => intro x1 x2 x3 D; exact pr_none
  | succ n ih =>
    intro x1 x2 x3 D
    show ga_pr D (if 72 ≤ x3 then (k182 x1 x2 D) else (if 6 ≤ x2 then (g_X52_layOut_j62 x1 x2 x3 D (fun x1 x2 x3 D10 => g_X52_layOut_l10 n x1 x2 x3 D10 k182)) else (ga_bind (g_X52_has x1 x2 D) (fun r24 D24 => if r24 = 0 then (g_X52_layOut_j62 x1 x2 x3 D24 (fun x1 x2 x3 D10 => g_X52_layOut_l10 n x1 x2 x3 D10 k182)) else (if 64 ≤ x3 then (g_X52_layOut_j44 x1 x2 x3 D24 (fun x1 x2 x3 D10 => g_X52_layOut_l10 n x1 x2 x3 D10 k182)) else (ga_bind (g_X52_has x3 x2 D24) (fun r38 D38 => if r38 ≠ 0 then (g_X52_layOut_j58 x1 x2 x3 D38 (fun x1 x2 x3 D10 => g_X52_layOut_l10 n x1 x2 x3 D10 k182)) else (g_X52_layOut_j44 x1 x2 x3 D38 (fun x1 x2 x3 D10 => g_X52_layOut_l10 n x1 x2 x3 D10 k182)))))))))
    refine pr_ite (fun c13 => ?_) (fun c13 => ?_)
    exact hk182 _ _ _ 
    refine pr_ite (fun c19 => ?_) (fun c19 => ?_)
    refine g_X52_layOut_j62_pr (fun x1 x2 x3 D10 => ?_) _ _ _ _ 
    exact ih _ _ _ _ 
    refine pr_bind (g_X52_has_pr) (fun r24 D24 => ?_)
    refine pr_ite (fun c27 => ?_) (fun c27 => ?_)
    refine g_X52_layOut_j62_pr (fun x1 x2 x3 D10 => ?_) _ _ _ _ 
    exact ih _ _ _ _ 
    refine pr_ite (fun c33 => ?_) (fun c33 => ?_)
    refine g_X52_layOut_j44_pr (fun x1 x2 x3 D10 => ?_) _ _ _ _ 
    exact ih _ _ _ _ 
    refine pr_bind (g_X52_has_pr) (fun r38 D38 => ?_)
    refine pr_ite (fun c41 => ?_) (fun c41 => ?_)
    refine g_X52_layOut_j58_pr (fun x1 x2 x3 D10 => ?_) _ _ _ _ 
    exact ih _ _ _ _ 
    refine g_X52_layOut_j44_pr (fun x1 x2 x3 D10 => ?_) _ _ _ _ 
    exact ih _ _ _ _ 
theorem g_X52_layOut_l2_pr  {k204 : ga_D → ga_S} (hk204 : ∀ (D : ga_D), ga_pr D (k204 D)) : ∀ (n : Nat) (x1 x2 : Int) (D : ga_D), ga_pr D (g_X52_layOut_l2 n x1 x2 D k204) := by
  intro n
  induction n with
  | zero => intro x1 x2 D; exact pr_none
  | succ n ih =>
    intro x1 x2 D
    show ga_pr D (if 7 < x2 then (k204 D) else (g_X52_layOut_l10 aw_fu x1 x2 0 D (fun x1 x2 D182 => if 7 ≤ x2 then (ga_let (aw_w32 (x2 + 1)) (fun v198 => g_X52_layOut_l2 n x1 v198 D182 k204)) else (ga_ck (0 ≤ x2 ∧ x2 < 7) (ga_let (ga_set D182 5227 x2 (aw_w32 (64 + x2))) (fun D197 => ga_let (aw_w32 (x2 + 1)) (fun v198 => g_X52_layOut_l2 n x1 v198 D197 k204)))))))
    refine pr_ite (fun c5 => ?_) (fun c5 => ?_)
    exact hk204 _ 
    refine g_X52_layOut_l10_pr (fun x1 x2 D182 => ?_) _ _ _ _ _ 
    refine pr_ite (fun c185 => ?_) (fun c185 => ?_)
    refine pr_let (fun v198 => ?_)
    exact ih _ _ _ 
    refine pr_ck (fun ha197 => ?_)
    refine pr_upd (ga_Pn K_5227 rfl) (fun D197 => ?_)
    refine pr_let (fun v198 => ?_)
    exact ih _ _ _ 
theorem g_X52_layOut_j232_pr  {k214 : Int → Int → ga_D → ga_S} (hk214 : ∀ (x2 x3 : Int) (D : ga_D), ga_pr D (k214 x2 x3 D)) (x2 x3 : Int) (D : ga_D) : ga_pr D (g_X52_layOut_j232 x2 x3 D k214) := by
  unfold g_X52_layOut_j232
  refine pr_ck (fun ha247 => ?_)
  refine pr_ck (fun ha258 => ?_)
  refine pr_bind (g_X52_put_pr) (fun r261 D261 => ?_)
  refine pr_let (fun v264 => ?_)
  exact hk214 _ _ _ 
theorem g_X52_layOut_l214_pr  {k270 : Int → ga_D → ga_S} (hk270 : ∀ (x2 : Int) (D : ga_D), ga_pr D (k270 x2 D)) : ∀ (n : Nat) (x2 x3 : Int) (D : ga_D), ga_pr D (g_X52_layOut_l214 n x2 x3 D k270) := by
  intro n
  induction n with
  | zero => intro x2 x3 D; exact pr_none
  | succ n ih =>
    intro x2 x3 D
    show ga_pr D (if 72 ≤ x3 then (k270 x2 D) else (if x3 < 64 then (g_X52_layOut_j232 x2 x3 D (fun x2 x3 D214 => g_X52_layOut_l214 n x2 x3 D214 k270)) else (if x3 ≠ 71 then (ga_let (aw_w32 (x3 + 1)) (fun v264 => g_X52_layOut_l214 n x2 v264 D k270)) else (g_X52_layOut_j232 x2 x3 D (fun x2 x3 D214 => g_X52_layOut_l214 n x2 x3 D214 k270)))))
    refine pr_ite (fun c217 => ?_) (fun c217 => ?_)
    exact hk270 _ _ 
    refine pr_ite (fun c223 => ?_) (fun c223 => ?_)
    refine g_X52_layOut_j232_pr (fun x2 x3 D214 => ?_) _ _ _ 
    exact ih _ _ _ 
    refine pr_ite (fun c229 => ?_) (fun c229 => ?_)
    refine pr_let (fun v264 => ?_)
    exact ih _ _ _ 
    refine g_X52_layOut_j232_pr (fun x2 x3 D214 => ?_) _ _ _ 
    exact ih _ _ _ 
theorem g_X52_layOut_l206_pr  {k276 : ga_D → ga_S} (hk276 : ∀ (D : ga_D), ga_pr D (k276 D)) : ∀ (n : Nat) (x2 : Int) (D : ga_D), ga_pr D (g_X52_layOut_l206 n x2 D k276) := by
  intro n
  induction n with
  | zero => intro x2 D; exact pr_none
  | succ n ih =>
    intro x2 D
    show ga_pr D (if 7 ≤ x2 then (k276 D) else (g_X52_layOut_l214 aw_fu x2 0 D (fun x2 D270 => ga_let (aw_w32 (x2 + 1)) (fun v270 => g_X52_layOut_l206 n v270 D270 k276))))
    refine pr_ite (fun c209 => ?_) (fun c209 => ?_)
    exact hk276 _ 
    refine g_X52_layOut_l214_pr (fun x2 D270 => ?_) _ _ _ _ 
    refine pr_let (fun v270 => ?_)
    exact ih _ _ 
theorem g_X52_layOut_pr {x1 : Int} {D : ga_D} : ga_pr D (g_X52_layOut x1 D) := by
  unfold g_X52_layOut
  refine g_X52_layOut_l2_pr (fun D204 => ?_) _ _ _ _ 
  refine g_X52_layOut_l206_pr (fun D276 => ?_) _ _ _ 
  exact pr_some
theorem g_X52_coming_l2_pr  {k38 : Int → ga_D → ga_S} (hk38 : ∀ (x1 : Int) (D : ga_D), ga_pr D (k38 x1 D)) : ∀ (n : Nat) (x1 : Int) (D : ga_D), ga_pr D (g_X52_coming_l2 n x1 D k38) := by
  intro n
  induction n with
  | zero => intro x1 D; exact pr_none
  | succ n ih =>
    intro x1 D
    show ga_pr D (if 64 ≤ x1 then (k38 x1 D) else (ga_ck (0 ≤ x1 ∧ x1 < 64) (if D 5228 x1 = 0 then (ga_let (aw_w32 (x1 + 1)) (fun v32 => g_X52_coming_l2 n v32 D k38)) else (ga_ck (0 ≤ aw_w32 (504 + x1) ∧ aw_w32 (504 + x1) < 576) (if D 5225 (aw_w32 (504 + x1)) < 0 then (k38 x1 D) else (ga_let (aw_w32 (x1 + 1)) (fun v32 => g_X52_coming_l2 n v32 D k38)))))))
    refine pr_ite (fun c5 => ?_) (fun c5 => ?_)
    exact hk38 _ _ 
    refine pr_ck (fun ha13 => ?_)
    refine pr_ite (fun c14 => ?_) (fun c14 => ?_)
    refine pr_let (fun v32 => ?_)
    exact ih _ _ 
    refine pr_ck (fun ha26 => ?_)
    refine pr_ite (fun c29 => ?_) (fun c29 => ?_)
    exact hk38 _ _ 
    refine pr_let (fun v32 => ?_)
    exact ih _ _ 
theorem g_X52_coming_j38_pr  (x1 : Int) (D : ga_D) : ga_pr D (g_X52_coming_j38 x1 D) := by
  unfold g_X52_coming_j38
  refine pr_ite (fun c41 => ?_) (fun c41 => ?_)
  exact pr_some
  exact pr_some
theorem g_X52_coming_pr {D : ga_D} : ga_pr D (g_X52_coming D) := by
  unfold g_X52_coming
  refine g_X52_coming_l2_pr (fun x1 D38 => ?_) _ _ _ 
  refine g_X52_coming_j38_pr _ _ 
theorem g_X52_leaving_j192_pr  {k4 : Int → Int → Int → ga_D → ga_S} (hk4 : ∀ (x1 x2 x3 : Int) (D : ga_D), ga_pr D (k4 x1 x2 x3 D)) (x1 x2 x3 x5 : Int) (D : ga_D) : ga_pr D (g_X52_leaving_j192 x1 x2 x3 x5 D k4) := by
  unfold g_X52_leaving_j192
  refine pr_ite (fun c194 => ?_) (fun c194 => ?_)
  refine pr_let (fun v203 => ?_)
  exact hk4 _ _ _ _ 
  refine pr_let (fun v203 => ?_)
  exact hk4 _ _ _ _ 
theorem g_X52_leaving_j190_pr  {k4 : Int → Int → Int → ga_D → ga_S} (hk4 : ∀ (x1 x2 x3 : Int) (D : ga_D), ga_pr D (k4 x1 x2 x3 D)) (x1 x2 x3 s0 : Int) (D : ga_D) : ga_pr D (g_X52_leaving_j190 x1 x2 x3 s0 D k4) := by
  unfold g_X52_leaving_j190
  refine g_X52_leaving_j192_pr (fun x1 x2 x3 D4 => ?_) _ _ _ _ _ 
  exact hk4 _ _ _ _ 
theorem g_X52_leaving_j185_pr  {k4 : Int → Int → Int → ga_D → ga_S} (hk4 : ∀ (x1 x2 x3 : Int) (D : ga_D), ga_pr D (k4 x1 x2 x3 D)) (x1 x2 x3 : Int) (D : ga_D) : ga_pr D (g_X52_leaving_j185 x1 x2 x3 D k4) := by
  unfold g_X52_leaving_j185
  refine g_X52_leaving_j190_pr (fun x1 x2 x3 D4 => ?_) _ _ _ _ _ 
  exact hk4 _ _ _ _ 
theorem g_X52_leaving_j189_pr  {k4 : Int → Int → Int → ga_D → ga_S} (hk4 : ∀ (x1 x2 x3 : Int) (D : ga_D), ga_pr D (k4 x1 x2 x3 D)) (x1 x2 x3 : Int) (D : ga_D) : ga_pr D (g_X52_leaving_j189 x1 x2 x3 D k4) := by
  unfold g_X52_leaving_j189
  refine g_X52_leaving_j190_pr (fun x1 x2 x3 D4 => ?_) _ _ _ _ _ 
  exact hk4 _ _ _ _ 
theorem g_X52_leaving_j39_pr  {k4 : Int → Int → Int → ga_D → ga_S} (hk4 : ∀ (x1 x2 x3 : Int) (D : ga_D), ga_pr D (k4 x1 x2 x3 D)) (x1 x2 x3 x4 s0 : Int) (D : ga_D) : ga_pr D (g_X52_leaving_j39 x1 x2 x3 x4 s0 D k4) := by
  unfold g_X52_leaving_j39
  refine pr_ite (fun c43 => ?_) (fun c43 => ?_)
  refine g_X52_leaving_j192_pr (fun x1 x2 x3 D4 => ?_) _ _ _ _ _ 
  exact hk4 _ _ _ _ 
  refine pr_ck (fun ha57 => ?_)
  refine pr_ck (fun ha64 => ?_)
  refine pr_let (fun v66 => ?_)
  refine pr_ck (fun ha79 => ?_)
  refine pr_ck (fun ha86 => ?_)
  refine pr_let (fun v88 => ?_)
  refine pr_ck (fun ha101 => ?_)
  refine pr_ck (fun ha112 => ?_)
  refine pr_let (fun v114 => ?_)
  refine pr_ck (fun ha127 => ?_)
  refine pr_ck (fun ha138 => ?_)
  refine pr_let (fun v140 => ?_)
  refine pr_ite (fun c153 => ?_) (fun c153 => ?_)
  refine g_X52_leaving_j185_pr (fun x1 x2 x3 D4 => ?_) _ _ _ _ 
  exact hk4 _ _ _ _ 
  refine pr_ite (fun c167 => ?_) (fun c167 => ?_)
  refine g_X52_leaving_j189_pr (fun x1 x2 x3 D4 => ?_) _ _ _ _ 
  exact hk4 _ _ _ _ 
  refine pr_ck (fun ha175 => ?_)
  refine pr_ck (fun ha181 => ?_)
  refine pr_ite (fun c182 => ?_) (fun c182 => ?_)
  refine g_X52_leaving_j189_pr (fun x1 x2 x3 D4 => ?_) _ _ _ _ 
  exact hk4 _ _ _ _ 
  refine g_X52_leaving_j185_pr (fun x1 x2 x3 D4 => ?_) _ _ _ _ 
  exact hk4 _ _ _ _ 
theorem g_X52_leaving_l4_pr  {k209 : Int → ga_D → ga_S} (hk209 : ∀ (x2 : Int) (D : ga_D), ga_pr D (k209 x2 D)) : ∀ (n : Nat) (x1 x2 x3 : Int) (D : ga_D), ga_pr D (g_X52_leaving_l4 n x1 x2 x3 D k209) := by
  intro n
  induction n with
  | zero => intro x1 x2 x3 D; exact pr_none
  | succ n ih =>
    intro x1 x2 x3 D
    show ga_pr D (if 7 ≤ x3 then (k209 x2 D) else (ga_let (aw_w32 ((aw_w32 (72 * x3)) + x1)) (fun v16 => ga_ck (0 ≤ v16 ∧ v16 < 576) (if D 5225 v16 ≤ 0 then (ga_let (aw_w32 (x3 + 1)) (fun v203 => g_X52_leaving_l4 n x1 x2 v203 D k209)) else (if 0 ≤ x2 then (g_X52_leaving_j39 x1 x2 x3 v16 0 D (fun x1 x2 x3 D4 => g_X52_leaving_l4 n x1 x2 x3 D4 k209)) else (g_X52_leaving_j39 x1 x2 x3 v16 1 D (fun x1 x2 x3 D4 => g_X52_leaving_l4 n x1 x2 x3 D4 k209)))))))
    refine pr_ite (fun c7 => ?_) (fun c7 => ?_)
    exact hk209 _ _ 
    refine pr_let (fun v16 => ?_)
    refine pr_ck (fun ha24 => ?_)
    refine pr_ite (fun c27 => ?_) (fun c27 => ?_)
    refine pr_let (fun v203 => ?_)
    exact ih _ _ _ _ 
    refine pr_ite (fun c31 => ?_) (fun c31 => ?_)
    refine g_X52_leaving_j39_pr (fun x1 x2 x3 D4 => ?_) _ _ _ _ _ _ 
    exact ih _ _ _ _ 
    refine g_X52_leaving_j39_pr (fun x1 x2 x3 D4 => ?_) _ _ _ _ _ _ 
    exact ih _ _ _ _ 
theorem g_X52_leaving_pr {x1 : Int} {D : ga_D} : ga_pr D (g_X52_leaving x1 D) := by
  unfold g_X52_leaving
  refine g_X52_leaving_l4_pr (fun x2 D209 => ?_) _ _ _ _ _ 
  exact pr_some
theorem g_X52_lessen_pr {x1 x2 x3 : Int} {D : ga_D} : ga_pr D (g_X52_lessen x1 x2 x3 D) := by
  unfold g_X52_lessen
  refine pr_ck (fun ha5 => ?_)
  refine pr_ite (fun c8 => ?_) (fun c8 => ?_)
  exact pr_some
  refine pr_ck (fun ha16 => ?_)
  refine pr_ite (fun c19 => ?_) (fun c19 => ?_)
  refine pr_ck (fun ha28 => ?_)
  refine pr_ck (fun ha34 => ?_)
  refine pr_bind (g_X52_common_pr) (fun r35 D35 => ?_)
  refine pr_ck (fun ha45 => ?_)
  refine pr_ck (fun ha51 => ?_)
  refine pr_bind (g_X52_common_pr) (fun r52 D52 => ?_)
  refine pr_ck (fun ha62 => ?_)
  refine pr_ck (fun hz65 => ?_)
  refine pr_ck (fun ha71 => ?_)
  refine pr_ck (fun hz74 => ?_)
  refine pr_let (fun v76 => ?_)
  refine pr_ck (fun ha83 => ?_)
  refine pr_ck (fun hz86 => ?_)
  refine pr_ck (fun ha92 => ?_)
  refine pr_ck (fun hz95 => ?_)
  refine pr_let (fun v97 => ?_)
  refine pr_ck (fun ha106 => ?_)
  refine pr_ck (fun ha117 => ?_)
  refine pr_ck (fun ha125 => ?_)
  refine pr_bind (g_X52_put_pr) (fun r129 D129 => ?_)
  exact pr_some
  exact pr_some
theorem g_X52_turn_j98_pr  {k26 : Int → Int → Int → Int → Int → ga_D → ga_S} (hk26 : ∀ (x1 x2 x4 x6 x8 : Int) (D : ga_D), ga_pr D (k26 x1 x2 x4 x6 x8 D)) (x1 x2 x4 x6 x8 s0 s1 s2 s3 : Int) (D : ga_D) : ga_pr D (g_X52_turn_j98 x1 x2 x4 x6 x8 s0 s1 s2 s3 D k26) := by
  unfold g_X52_turn_j98
  refine pr_bind (g_X52_put_pr) (fun r99 D99 => ?_)
  refine pr_let (fun v102 => ?_)
  exact hk26 _ _ _ _ _ _ 
theorem g_X52_turn_j76_pr  {k26 : Int → Int → Int → Int → Int → ga_D → ga_S} (hk26 : ∀ (x1 x2 x4 x6 x8 : Int) (D : ga_D), ga_pr D (k26 x1 x2 x4 x6 x8 D)) (x1 x2 x4 x6 x8 x9 s0 s1 : Int) (D : ga_D) : ga_pr D (g_X52_turn_j76 x1 x2 x4 x6 x8 x9 s0 s1 D k26) := by
  unfold g_X52_turn_j76
  refine pr_ck (fun ha82 => ?_)
  refine pr_ite (fun c87 => ?_) (fun c87 => ?_)
  refine g_X52_turn_j98_pr (fun x1 x2 x4 x6 x8 D26 => ?_) _ _ _ _ _ _ _ _ _ _ 
  exact hk26 _ _ _ _ _ _ 
  refine g_X52_turn_j98_pr (fun x1 x2 x4 x6 x8 D26 => ?_) _ _ _ _ _ _ _ _ _ _ 
  exact hk26 _ _ _ _ _ _ 
theorem g_X52_turn_l26_pr  {k108 : Int → Int → ga_D → ga_S} (hk108 : ∀ (x1 x2 : Int) (D : ga_D), ga_pr D (k108 x1 x2 D)) : ∀ (n : Nat) (x1 x2 x4 x6 x8 : Int) (D : ga_D), ga_pr D (g_X52_turn_l26 n x1 x2 x4 x6 x8 D k108) := by
  intro n
  induction n with
  | zero => intro x1 x2 x4 x6 x8 D; exact pr_none
  | succ n ih =>
    intro x1 x2 x4 x6 x8 D
    show ga_pr D (if 72 ≤ x8 then (k108 x1 x2 D) else (ga_let (aw_w32 ((aw_w32 (72 * x1)) + x8)) (fun v40 => if 0 ≤ x4 then (ga_ck (0 ≤ v40 ∧ v40 < 576) (g_X52_turn_j76 x1 x2 x4 x6 x8 v40 (aw_w64 ((D 5225 v40) * x6)) v40 D (fun x1 x2 x4 x6 x8 D26 => g_X52_turn_l26 n x1 x2 x4 x6 x8 D26 k108))) else (ga_ck (0 ≤ v40 ∧ v40 < 576) (g_X52_turn_j76 x1 x2 x4 x6 x8 v40 (aw_w64 ((aw_w64 (-(D 5225 v40))) * x6)) v40 D (fun x1 x2 x4 x6 x8 D26 => g_X52_turn_l26 n x1 x2 x4 x6 x8 D26 k108))))))
    refine pr_ite (fun c30 => ?_) (fun c30 => ?_)
    exact hk108 _ _ _ 
    refine pr_let (fun v40 => ?_)
    refine pr_ite (fun c49 => ?_) (fun c49 => ?_)
    refine pr_ck (fun ha72 => ?_)
    refine g_X52_turn_j76_pr (fun x1 x2 x4 x6 x8 D26 => ?_) _ _ _ _ _ _ _ _ _ 
    exact ih _ _ _ _ _ _ 
    refine pr_ck (fun ha58 => ?_)
    refine g_X52_turn_j76_pr (fun x1 x2 x4 x6 x8 D26 => ?_) _ _ _ _ _ _ _ _ _ 
    exact ih _ _ _ _ _ _ 
theorem g_X52_turn_l148_pr  {k188 : Int → Int → Int → Int → ga_D → ga_S} (hk188 : ∀ (x1 x2 x8 x9 : Int) (D : ga_D), ga_pr D (k188 x1 x2 x8 x9 D)) : ∀ (n : Nat) (x1 x2 x8 x9 x10 : Int) (D : ga_D), ga_pr D (g_X52_turn_l148 n x1 x2 x8 x9 x10 D k188) := by
  intro n
  induction n with
  | zero => intro x1 x2 x8 x9 x10 D; exact pr_none
  | succ n ih =>
    intro x1 x2 x8 x9 x10 D
    show ga_pr D (if 72 ≤ x10 then (k188 x1 x2 x8 x9 D) else (if x10 = x2 then (ga_let (aw_w32 (x10 + 1)) (fun v182 => g_X52_turn_l148 n x1 x2 x8 x9 v182 D k188)) else (ga_bind (g_X52_lessen (aw_w32 ((aw_w32 (72 * x8)) + x10)) x9 (aw_w32 ((aw_w32 (72 * x1)) + x10)) D) (fun r179 D179 => ga_let (aw_w32 (x10 + 1)) (fun v182 => g_X52_turn_l148 n x1 x2 x8 x9 v182 D179 k188)))))
    refine pr_ite (fun c152 => ?_) (fun c152 => ?_)
    exact hk188 _ _ _ _ _ 
    refine pr_ite (fun c158 => ?_) (fun c158 => ?_)
    refine pr_let (fun v182 => ?_)
    exact ih _ _ _ _ _ _ 
    refine pr_bind (g_X52_lessen_pr) (fun r179 D179 => ?_)
    refine pr_let (fun v182 => ?_)
    exact ih _ _ _ _ _ _ 
theorem g_X52_turn_l111_pr  {k210 : Int → Int → ga_D → ga_S} (hk210 : ∀ (x1 x2 : Int) (D : ga_D), ga_pr D (k210 x1 x2 D)) : ∀ (n : Nat) (x1 x2 x8 : Int) (D : ga_D), ga_pr D (g_X52_turn_l111 n x1 x2 x8 D k210) := by
  intro n
  induction n with
  | zero => intro x1 x2 x8 D; exact pr_none
  | succ n ih =>
    intro x1 x2 x8 D
    show ga_pr D (if 7 < x8 then (k210 x1 x2 D) else (ga_let (aw_w32 ((aw_w32 (72 * x8)) + x2)) (fun v125 => if x8 = x1 then (ga_let (aw_w32 (x8 + 1)) (fun v204 => g_X52_turn_l111 n x1 x2 v204 D k210)) else (ga_ck (0 ≤ v125 ∧ v125 < 576) (if D 5225 v125 = 0 then (ga_let (aw_w32 (x8 + 1)) (fun v204 => g_X52_turn_l111 n x1 x2 v204 D k210)) else (g_X52_turn_l148 aw_fu x1 x2 x8 v125 0 D (fun x1 x2 x8 x9 D188 => ga_ck (0 ≤ x9 ∧ x9 < 576) (ga_let (ga_set D188 5225 x9 0) (fun D195 => ga_ck (0 ≤ x9 ∧ x9 < 576) (ga_let (ga_set D195 5226 x9 1) (fun D203 => ga_let (aw_w32 (x8 + 1)) (fun v204 => g_X52_turn_l111 n x1 x2 v204 D203 k210))))))))))))
    refine pr_ite (fun c115 => ?_) (fun c115 => ?_)
    exact hk210 _ _ _ 
    refine pr_let (fun v125 => ?_)
    refine pr_ite (fun c130 => ?_) (fun c130 => ?_)
    refine pr_let (fun v204 => ?_)
    exact ih _ _ _ _ 
    refine pr_ck (fun ha139 => ?_)
    refine pr_ite (fun c142 => ?_) (fun c142 => ?_)
    refine pr_let (fun v204 => ?_)
    exact ih _ _ _ _ 
    refine g_X52_turn_l148_pr (fun x1 x2 x8 x9 D188 => ?_) _ _ _ _ _ _ _ 
    refine pr_ck (fun ha195 => ?_)
    refine pr_upd (ga_Pn K_5225 rfl) (fun D195 => ?_)
    refine pr_ck (fun ha203 => ?_)
    refine pr_upd (ga_Pn K_5226 rfl) (fun D203 => ?_)
    refine pr_let (fun v204 => ?_)
    exact ih _ _ _ _ 
theorem g_X52_turn_pr {x1 x2 : Int} {D : ga_D} : ga_pr D (g_X52_turn x1 x2 D) := by
  unfold g_X52_turn
  refine pr_let (fun v6 => ?_)
  refine pr_ck (fun ha12 => ?_)
  refine pr_let (fun v13 => ?_)
  refine pr_ck (fun ha20 => ?_)
  refine pr_let (fun v21 => ?_)
  refine g_X52_turn_l26_pr (fun x1 x2 D108 => ?_) _ _ _ _ _ _ _ 
  refine g_X52_turn_l111_pr (fun x1 x2 D210 => ?_) _ _ _ _ _ 
  refine pr_ck (fun ha216 => ?_)
  refine pr_upd (ga_Pn K_5227 rfl) (fun D216 => ?_)
  exact pr_some
theorem g_X52_settle_l5_pr  {k27 : ga_D → ga_S} (hk27 : ∀ (D : ga_D), ga_pr D (k27 D)) : ∀ (n : Nat) (x1 : Int) (D : ga_D), ga_pr D (g_X52_settle_l5 n x1 D k27) := by
  intro n
  induction n with
  | zero => intro x1 D; exact pr_none
  | succ n ih =>
    intro x1 D
    show ga_pr D (if x1 < 0 then (k27 D) else (ga_bind (g_X52_leaving x1 D) (fun r12 D12 => ga_bind (g_X52_turn r12 x1 D12) (fun r16 D16 => ga_bind (g_X52_coming D16) (fun r20 D20 => g_X52_settle_l5 n r20 D20 k27)))))
    refine pr_ite (fun c6 => ?_) (fun c6 => ?_)
    exact hk27 _ 
    refine pr_bind (g_X52_leaving_pr) (fun r12 D12 => ?_)
    refine pr_bind (g_X52_turn_pr) (fun r16 D16 => ?_)
    refine pr_bind (g_X52_coming_pr) (fun r20 D20 => ?_)
    exact ih _ _ 
theorem g_X52_settle_pr {D : ga_D} : ga_pr D (g_X52_settle D) := by
  unfold g_X52_settle
  refine pr_bind (g_X52_coming_pr) (fun r1 D1 => ?_)
  refine g_X52_settle_l5_pr (fun D27 => ?_) _ _ _ 
  exact pr_some
theorem g_X52_clean_l10_pr  {k64 : Int → ga_D → ga_S} (hk64 : ∀ (x1 : Int) (D : ga_D), ga_pr D (k64 x1 D)) : ∀ (n : Nat) (x1 x2 : Int) (D : ga_D), ga_pr D (g_X52_clean_l10 n x1 x2 D k64) := by
  intro n
  induction n with
  | zero => intro x1 x2 D; exact pr_none
  | succ n ih =>
    intro x1 x2 D
    show ga_pr D (if 64 ≤ x2 then (k64 x1 D) else (ga_ck (0 ≤ x1 ∧ x1 < 7) (if D 5227 x1 < 64 then (k64 x1 D) else (ga_ck (0 ≤ x2 ∧ x2 < 64) (if D 5228 x2 = 0 then (ga_let (aw_w32 (x2 + 1)) (fun v58 => g_X52_clean_l10 n x1 v58 D k64)) else (ga_ck (0 ≤ aw_w32 ((aw_w32 (72 * x1)) + x2) ∧ aw_w32 ((aw_w32 (72 * x1)) + x2) < 576) (if D 5225 (aw_w32 ((aw_w32 (72 * x1)) + x2)) = 0 then (ga_let (aw_w32 (x2 + 1)) (fun v58 => g_X52_clean_l10 n x1 v58 D k64)) else (ga_bind (g_X52_turn x1 x2 D) (fun r55 D55 => ga_let (aw_w32 (x2 + 1)) (fun v58 => g_X52_clean_l10 n x1 v58 D55 k64))))))))))
    refine pr_ite (fun c13 => ?_) (fun c13 => ?_)
    exact hk64 _ _ 
    refine pr_ck (fun ha21 => ?_)
    refine pr_ite (fun c24 => ?_) (fun c24 => ?_)
    exact hk64 _ _ 
    refine pr_ck (fun ha32 => ?_)
    refine pr_ite (fun c33 => ?_) (fun c33 => ?_)
    refine pr_let (fun v58 => ?_)
    exact ih _ _ _ 
    refine pr_ck (fun ha46 => ?_)
    refine pr_ite (fun c49 => ?_) (fun c49 => ?_)
    refine pr_let (fun v58 => ?_)
    exact ih _ _ _ 
    refine pr_bind (g_X52_turn_pr) (fun r55 D55 => ?_)
    refine pr_let (fun v58 => ?_)
    exact ih _ _ _ 
theorem g_X52_clean_l2_pr  {k70 : ga_D → ga_S} (hk70 : ∀ (D : ga_D), ga_pr D (k70 D)) : ∀ (n : Nat) (x1 : Int) (D : ga_D), ga_pr D (g_X52_clean_l2 n x1 D k70) := by
  intro n
  induction n with
  | zero => intro x1 D; exact pr_none
  | succ n ih =>
    intro x1 D
    show ga_pr D (if 7 ≤ x1 then (k70 D) else (g_X52_clean_l10 aw_fu x1 0 D (fun x1 D64 => ga_let (aw_w32 (x1 + 1)) (fun v64 => g_X52_clean_l2 n v64 D64 k70))))
    refine pr_ite (fun c5 => ?_) (fun c5 => ?_)
    exact hk70 _ 
    refine g_X52_clean_l10_pr (fun x1 D64 => ?_) _ _ _ _ 
    refine pr_let (fun v64 => ?_)
    exact ih _ _ 
theorem g_X52_clean_pr {D : ga_D} : ga_pr D (g_X52_clean D) := by
  unfold g_X52_clean
  refine g_X52_clean_l2_pr (fun D70 => ?_) _ _ _ 
  exact pr_some
theorem g_X52_aim_j61_pr  {k2 : Int → Int → ga_D → ga_S} (hk2 : ∀ (x1 x2 : Int) (D : ga_D), ga_pr D (k2 x1 x2 D)) (x1 x2 s0 : Int) (D : ga_D) : ga_pr D (g_X52_aim_j61 x1 x2 s0 D k2) := by
  unfold g_X52_aim_j61
  refine pr_bind (g_X52_put_pr) (fun r70 D70 => ?_)
  refine pr_let (fun v73 => ?_)
  exact hk2 _ _ _ 
theorem g_X52_aim_j18_pr  {k2 : Int → Int → ga_D → ga_S} (hk2 : ∀ (x1 x2 : Int) (D : ga_D), ga_pr D (k2 x1 x2 D)) (x1 x2 : Int) (D : ga_D) : ga_pr D (g_X52_aim_j18 x1 x2 D k2) := by
  unfold g_X52_aim_j18
  refine g_X52_aim_j61_pr (fun x1 x2 D2 => ?_) _ _ _ _ 
  exact hk2 _ _ _ 
theorem g_X52_aim_l2_pr  {k79 : ga_D → ga_S} (hk79 : ∀ (D : ga_D), ga_pr D (k79 D)) : ∀ (n : Nat) (x1 x2 : Int) (D : ga_D), ga_pr D (g_X52_aim_l2 n x1 x2 D k79) := by
  intro n
  induction n with
  | zero => intro x1 x2 D; exact pr_none
  | succ n ih =>
    intro x1 x2 D
    show ga_pr D (if 72 ≤ x2 then (k79 D) else (if x2 = 0 then (g_X52_aim_j18 x1 x2 D (fun x1 x2 D2 => g_X52_aim_l2 n x1 x2 D2 k79)) else (if x2 < 64 then (if x1 ≤ 0 then (ga_ck (0 ≤ x2 ∧ x2 < 64) (if 0 ≤ D 5217 x2 then (ga_ck (0 ≤ x2 ∧ x2 < 64) (g_X52_aim_j61 x1 x2 (D 5217 x2) D (fun x1 x2 D2 => g_X52_aim_l2 n x1 x2 D2 k79))) else (g_X52_aim_j61 x1 x2 0 D (fun x1 x2 D2 => g_X52_aim_l2 n x1 x2 D2 k79)))) else (if x2 ≠ x1 then (g_X52_aim_j61 x1 x2 0 D (fun x1 x2 D2 => g_X52_aim_l2 n x1 x2 D2 k79)) else (g_X52_aim_j61 x1 x2 (-1) D (fun x1 x2 D2 => g_X52_aim_l2 n x1 x2 D2 k79)))) else (g_X52_aim_j18 x1 x2 D (fun x1 x2 D2 => g_X52_aim_l2 n x1 x2 D2 k79)))))
    refine pr_ite (fun c5 => ?_) (fun c5 => ?_)
    exact hk79 _ 
    refine pr_ite (fun c9 => ?_) (fun c9 => ?_)
    refine g_X52_aim_j18_pr (fun x1 x2 D2 => ?_) _ _ _ 
    exact ih _ _ _ 
    refine pr_ite (fun c15 => ?_) (fun c15 => ?_)
    refine pr_ite (fun c23 => ?_) (fun c23 => ?_)
    refine pr_ck (fun ha46 => ?_)
    refine pr_ite (fun c47 => ?_) (fun c47 => ?_)
    refine pr_ck (fun ha59 => ?_)
    refine g_X52_aim_j61_pr (fun x1 x2 D2 => ?_) _ _ _ _ 
    exact ih _ _ _ 
    refine g_X52_aim_j61_pr (fun x1 x2 D2 => ?_) _ _ _ _ 
    exact ih _ _ _ 
    refine pr_ite (fun c28 => ?_) (fun c28 => ?_)
    refine g_X52_aim_j61_pr (fun x1 x2 D2 => ?_) _ _ _ _ 
    exact ih _ _ _ 
    refine g_X52_aim_j61_pr (fun x1 x2 D2 => ?_) _ _ _ _ 
    exact ih _ _ _ 
    refine g_X52_aim_j18_pr (fun x1 x2 D2 => ?_) _ _ _ 
    exact ih _ _ _ 
theorem g_X52_aim_l139_pr  {k181 : Int → Int → Int → Int → ga_D → ga_S} (hk181 : ∀ (x2 x3 x4 x6 : Int) (D : ga_D), ga_pr D (k181 x2 x3 x4 x6 D)) : ∀ (n : Nat) (x2 x3 x4 x6 x8 : Int) (D : ga_D), ga_pr D (g_X52_aim_l139 n x2 x3 x4 x6 x8 D k181) := by
  intro n
  induction n with
  | zero => intro x2 x3 x4 x6 x8 D; exact pr_none
  | succ n ih =>
    intro x2 x3 x4 x6 x8 D
    show ga_pr D (if 72 ≤ x8 then (k181 x2 x3 x4 x6 D) else (ga_ck (0 ≤ x2 ∧ x2 < 7) (if x8 = D 5227 x2 then (ga_let (aw_w32 (x8 + 1)) (fun v175 => g_X52_aim_l139 n x2 x3 x4 x6 v175 D k181)) else (ga_bind (g_X52_lessen (aw_w32 (504 + x8)) x3 (aw_w32 ((aw_w32 (72 * x2)) + x8)) D) (fun r172 D172 => ga_let (aw_w32 (x8 + 1)) (fun v175 => g_X52_aim_l139 n x2 x3 x4 x6 v175 D172 k181))))))
    refine pr_ite (fun c143 => ?_) (fun c143 => ?_)
    exact hk181 _ _ _ _ _ 
    refine pr_ck (fun ha153 => ?_)
    refine pr_ite (fun c154 => ?_) (fun c154 => ?_)
    refine pr_let (fun v175 => ?_)
    exact ih _ _ _ _ _ _ 
    refine pr_bind (g_X52_lessen_pr) (fun r172 D172 => ?_)
    refine pr_let (fun v175 => ?_)
    exact ih _ _ _ _ _ _ 
theorem g_X52_aim_l81_pr  {k233 : ga_D → ga_S} (hk233 : ∀ (D : ga_D), ga_pr D (k233 D)) : ∀ (n : Nat) (x2 : Int) (D : ga_D), ga_pr D (g_X52_aim_l81 n x2 D k233) := by
  intro n
  induction n with
  | zero => intro x2 D; exact pr_none
  | succ n ih =>
    intro x2 D
    show ga_pr D (if 7 ≤ x2 then (k233 D) else (ga_ck (0 ≤ x2 ∧ x2 < 7) (ga_let (aw_w32 (504 + (D 5227 x2))) (fun v97 => ga_ck (0 ≤ x2 ∧ x2 < 7) (if 64 ≤ D 5227 x2 then (ga_let (aw_w32 (x2 + 1)) (fun v227 => g_X52_aim_l81 n v227 D k233)) else (ga_ck (0 ≤ v97 ∧ v97 < 576) (if D 5225 v97 = 0 then (ga_let (aw_w32 (x2 + 1)) (fun v227 => g_X52_aim_l81 n v227 D k233)) else (ga_ck (0 ≤ v97 ∧ v97 < 576) (ga_let (D 5225 v97) (fun v126 => ga_ck (0 ≤ v97 ∧ v97 < 576) (ga_let (D 5226 v97) (fun v134 => g_X52_aim_l139 aw_fu x2 v97 v126 v134 0 D (fun x2 x3 x4 x6 D181 => ga_ck (0 ≤ x2 ∧ x2 < 7) (ga_ck (0 ≤ aw_w32 ((aw_w32 (72 * x2)) + (D181 5227 x2)) ∧ aw_w32 ((aw_w32 (72 * x2)) + (D181 5227 x2)) < 576) (ga_ck (0 ≤ x2 ∧ x2 < 7) (ga_ck (0 ≤ aw_w32 ((aw_w32 (72 * x2)) + (D181 5227 x2)) ∧ aw_w32 ((aw_w32 (72 * x2)) + (D181 5227 x2)) < 576) (ga_bind (g_X52_put x3 (aw_w64 ((aw_w64 (x4 * (D181 5226 (aw_w32 ((aw_w32 (72 * x2)) + (D181 5227 x2)))))) - (aw_w64 (x4 * (D181 5225 (aw_w32 ((aw_w32 (72 * x2)) + (D181 5227 x2)))))))) x6 D181) (fun r224 D224 => ga_let (aw_w32 (x2 + 1)) (fun v227 => g_X52_aim_l81 n v227 D224 k233)))))))))))))))))))
    refine pr_ite (fun c84 => ?_) (fun c84 => ?_)
    exact hk233 _ 
    refine pr_ck (fun ha95 => ?_)
    refine pr_let (fun v97 => ?_)
    refine pr_ck (fun ha103 => ?_)
    refine pr_ite (fun c106 => ?_) (fun c106 => ?_)
    refine pr_let (fun v227 => ?_)
    exact ih _ _ 
    refine pr_ck (fun ha114 => ?_)
    refine pr_ite (fun c117 => ?_) (fun c117 => ?_)
    refine pr_let (fun v227 => ?_)
    exact ih _ _ 
    refine pr_ck (fun ha125 => ?_)
    refine pr_let (fun v126 => ?_)
    refine pr_ck (fun ha133 => ?_)
    refine pr_let (fun v134 => ?_)
    refine g_X52_aim_l139_pr (fun x2 x3 x4 x6 D181 => ?_) _ _ _ _ _ _ _ 
    refine pr_ck (fun ha198 => ?_)
    refine pr_ck (fun ha200 => ?_)
    refine pr_ck (fun ha217 => ?_)
    refine pr_ck (fun ha219 => ?_)
    refine pr_bind (g_X52_put_pr) (fun r224 D224 => ?_)
    refine pr_let (fun v227 => ?_)
    exact ih _ _ 
theorem g_X52_aim_pr {x1 : Int} {D : ga_D} : ga_pr D (g_X52_aim x1 D) := by
  unfold g_X52_aim
  refine g_X52_aim_l2_pr (fun D79 => ?_) _ _ _ _ 
  refine g_X52_aim_l81_pr (fun D233 => ?_) _ _ _ 
  exact pr_some
theorem g_X52_solve_l2_pr  {k53 : Int → ga_D → ga_S} (hk53 : ∀ (x1 : Int) (D : ga_D), ga_pr D (k53 x1 D)) : ∀ (n : Nat) (x1 x2 x3 : Int) (D : ga_D), ga_pr D (g_X52_solve_l2 n x1 x2 x3 D k53) := by
  intro n
  induction n with
  | zero => intro x1 x2 x3 D; exact pr_none
  | succ n ih =>
    intro x1 x2 x3 D
    show ga_pr D (if 64 ≤ x3 then (k53 x1 D) else (if x3 = 0 then (ga_ck (0 ≤ x3 ∧ x3 < 64) (ga_let (ga_set D 5228 x3 1) (fun D46 => ga_let (aw_w32 (x3 + 1)) (fun v47 => g_X52_solve_l2 n x1 x2 v47 D46 k53)))) else (ga_ck (0 ≤ x3 ∧ x3 < 64) (if D 5217 x3 < 0 then (ga_ck (0 ≤ x3 ∧ x3 < 64) (ga_let (ga_set D 5228 x3 0) (fun D46 => ga_let (aw_w32 (x3 + 1)) (fun v47 => g_X52_solve_l2 n x1 x2 v47 D46 k53)))) else (ga_ck (0 ≤ x3 ∧ x3 < 64) (if D 5219 x3 ≠ 0 then (ga_ck (0 ≤ x3 ∧ x3 < 64) (ga_let (ga_set D 5228 x3 0) (fun D46 => ga_let (aw_w32 (x3 + 1)) (fun v47 => g_X52_solve_l2 n x1 x2 v47 D46 k53)))) else (if aw_and x3 x2 ≠ 0 then (ga_ck (0 ≤ x3 ∧ x3 < 64) (ga_let (ga_set D 5228 x3 0) (fun D46 => ga_let (aw_w32 (x3 + 1)) (fun v47 => g_X52_solve_l2 n x1 x2 v47 D46 k53)))) else (ga_ck (0 ≤ x3 ∧ x3 < 64) (ga_let (ga_set D 5228 x3 1) (fun D46 => ga_let (aw_w32 (x3 + 1)) (fun v47 => g_X52_solve_l2 n x1 x2 v47 D46 k53)))))))))))
    refine pr_ite (fun c5 => ?_) (fun c5 => ?_)
    exact hk53 _ _ 
    refine pr_ite (fun c14 => ?_) (fun c14 => ?_)
    refine pr_ck (fun ha46 => ?_)
    refine pr_upd (ga_Pn K_5228 rfl) (fun D46 => ?_)
    refine pr_let (fun v47 => ?_)
    exact ih _ _ _ _ 
    refine pr_ck (fun ha22 => ?_)
    refine pr_ite (fun c23 => ?_) (fun c23 => ?_)
    refine pr_ck (fun ha46 => ?_)
    refine pr_upd (ga_Pn K_5228 rfl) (fun D46 => ?_)
    refine pr_let (fun v47 => ?_)
    exact ih _ _ _ _ 
    refine pr_ck (fun ha31 => ?_)
    refine pr_ite (fun c32 => ?_) (fun c32 => ?_)
    refine pr_ck (fun ha46 => ?_)
    refine pr_upd (ga_Pn K_5228 rfl) (fun D46 => ?_)
    refine pr_let (fun v47 => ?_)
    exact ih _ _ _ _ 
    refine pr_ite (fun c38 => ?_) (fun c38 => ?_)
    refine pr_ck (fun ha46 => ?_)
    refine pr_upd (ga_Pn K_5228 rfl) (fun D46 => ?_)
    refine pr_let (fun v47 => ?_)
    exact ih _ _ _ _ 
    refine pr_ck (fun ha46 => ?_)
    refine pr_upd (ga_Pn K_5228 rfl) (fun D46 => ?_)
    refine pr_let (fun v47 => ?_)
    exact ih _ _ _ _ 
theorem g_X52_solve_pr {x1 x2 : Int} {D : ga_D} : ga_pr D (g_X52_solve x1 x2 D) := by
  unfold g_X52_solve
  refine g_X52_solve_l2_pr (fun x1 D53 => ?_) _ _ _ _ _ 
  refine pr_bind (g_X52_layOut_pr) (fun r55 D55 => ?_)
  refine pr_bind (g_X52_settle_pr) (fun r59 D59 => ?_)
  refine pr_ck (fun ha69 => ?_)
  refine pr_ite (fun c72 => ?_) (fun c72 => ?_)
  refine pr_bind (g_X52_clean_pr) (fun r78 D78 => ?_)
  refine pr_bind (g_X52_aim_pr) (fun r83 D83 => ?_)
  refine pr_bind (g_X52_settle_pr) (fun r87 D87 => ?_)
  exact pr_some
  exact pr_some
theorem g_X52_run_l59_pr  {k83 : ga_D → ga_S} (hk83 : ∀ (D : ga_D), ga_pr D (k83 D)) : ∀ (n : Nat) (x3 : Int) (D : ga_D), ga_pr D (g_X52_run_l59 n x3 D k83) := by
  intro n
  induction n with
  | zero => intro x3 D; exact pr_none
  | succ n ih =>
    intro x3 D
    show ga_pr D (if 6 ≤ x3 then (k83 D) else (ga_ck (0 ≤ x3 ∧ x3 < 6) (ga_ck (0 ≤ x3 ∧ x3 < 6) (ga_let (ga_set D 5214 x3 (D 5209 x3)) (fun D76 => ga_let (aw_w32 (x3 + 1)) (fun v77 => g_X52_run_l59 n v77 D76 k83))))))
    refine pr_ite (fun c62 => ?_) (fun c62 => ?_)
    exact hk83 _ 
    refine pr_ck (fun ha75 => ?_)
    refine pr_ck (fun ha76 => ?_)
    refine pr_upd (ga_Pn K_5214 rfl) (fun D76 => ?_)
    refine pr_let (fun v77 => ?_)
    exact ih _ _ 
theorem g_X52_run_l85_pr  {k134 : ga_D → ga_S} (hk134 : ∀ (D : ga_D), ga_pr D (k134 D)) : ∀ (n : Nat) (x3 : Int) (D : ga_D), ga_pr D (g_X52_run_l85 n x3 D k134) := by
  intro n
  induction n with
  | zero => intro x3 D; exact pr_none
  | succ n ih =>
    intro x3 D
    show ga_pr D (if 384 ≤ x3 then (k134 D) else (ga_ck (0 ≤ x3 ∧ x3 < 384) (ga_ck (0 ≤ x3 ∧ x3 < 384 ∧ 0 ≤ D 5221 x3 ∧ D 5221 x3 < 2) (ga_let (ga_set D 5215 x3 (D 5221 x3)) (fun D103 => ga_ck (0 ≤ x3 ∧ x3 < 384) (ga_ck (0 ≤ x3 ∧ x3 < 384 ∧ 0 ≤ D103 5222 x3 ∧ D103 5222 x3 < 2) (ga_let (ga_set D103 5216 x3 (D103 5222 x3)) (fun D115 => ga_ck (0 ≤ x3 ∧ x3 < 384) (ga_ck (0 ≤ x3 ∧ x3 < 384) (ga_let (ga_set D115 5218 x3 (D115 5224 x3)) (fun D127 => ga_let (aw_w32 (x3 + 1)) (fun v128 => g_X52_run_l85 n v128 D127 k134))))))))))))
    refine pr_ite (fun c89 => ?_) (fun c89 => ?_)
    exact hk134 _ 
    refine pr_ck (fun ha102 => ?_)
    refine pr_ck (fun ha103 => ?_)
    refine pr_upd (ga_Pn K_5215 rfl) (fun D103 => ?_)
    refine pr_ck (fun ha114 => ?_)
    refine pr_ck (fun ha115 => ?_)
    refine pr_upd (ga_Pn K_5216 rfl) (fun D115 => ?_)
    refine pr_ck (fun ha126 => ?_)
    refine pr_ck (fun ha127 => ?_)
    refine pr_upd (ga_Pn K_5218 rfl) (fun D127 => ?_)
    refine pr_let (fun v128 => ?_)
    exact ih _ _ 
theorem g_X52_run_l136_pr  {k171 : ga_D → ga_S} (hk171 : ∀ (D : ga_D), ga_pr D (k171 D)) : ∀ (n : Nat) (x3 : Int) (D : ga_D), ga_pr D (g_X52_run_l136 n x3 D k171) := by
  intro n
  induction n with
  | zero => intro x3 D; exact pr_none
  | succ n ih =>
    intro x3 D
    show ga_pr D (if 64 ≤ x3 then (k171 D) else (ga_ck (0 ≤ x3 ∧ x3 < 64) (ga_ck (0 ≤ x3 ∧ x3 < 64) (ga_let (ga_set D 5217 x3 (D 5223 x3)) (fun D153 => ga_bind (g_X52_isBarred x3 D153) (fun r161 D161 => ga_ck (0 ≤ x3 ∧ x3 < 64 ∧ 0 ≤ r161 ∧ r161 < 2) (ga_let (ga_set D161 5219 x3 r161) (fun D164 => ga_let (aw_w32 (x3 + 1)) (fun v165 => g_X52_run_l136 n v165 D164 k171)))))))))
    refine pr_ite (fun c139 => ?_) (fun c139 => ?_)
    exact hk171 _ 
    refine pr_ck (fun ha152 => ?_)
    refine pr_ck (fun ha153 => ?_)
    refine pr_upd (ga_Pn K_5217 rfl) (fun D153 => ?_)
    refine pr_bind (g_X52_isBarred_pr) (fun r161 D161 => ?_)
    refine pr_ck (fun ha164 => ?_)
    refine pr_upd (ga_Pn K_5219 rfl) (fun D164 => ?_)
    refine pr_let (fun v165 => ?_)
    exact ih _ _ 
theorem g_X52_run_j16_pr  (s0 : Int) (D : ga_D) : ga_pr D (g_X52_run_j16 s0 D) := by
  unfold g_X52_run_j16
  refine pr_upd (ga_Pn K_5208 rfl) (fun D16 => ?_)
  refine pr_ite (fun c23 => ?_) (fun c23 => ?_)
  refine pr_upd (ga_Pn K_5208 rfl) (fun D30 => ?_)
  refine pr_upd (ga_Pn K_5208 rfl) (fun D38 => ?_)
  refine pr_upd (ga_Pn K_5208 rfl) (fun D46 => ?_)
  refine pr_upd (ga_Pn K_5208 rfl) (fun D54 => ?_)
  refine g_X52_run_l59_pr (fun D83 => ?_) _ _ _ 
  refine g_X52_run_l85_pr (fun D134 => ?_) _ _ _ 
  refine g_X52_run_l136_pr (fun D171 => ?_) _ _ _ 
  refine pr_bind (g_X52_all_pr) (fun r173 D173 => ?_)
  refine pr_bind (g_X52_solve_pr) (fun r177 D177 => ?_)
  refine pr_ite (fun c180 => ?_) (fun c180 => ?_)
  exact pr_some
  exact pr_some
  exact pr_some
theorem g_X52_run_pr {x1 : Int} {D : ga_D} : ga_pr D (g_X52_run x1 D) := by
  unfold g_X52_run
  refine pr_bind (g_X52_search_pr) (fun r1 D1 => ?_)
  refine pr_ite (fun c8 => ?_) (fun c8 => ?_)
  refine g_X52_run_j16_pr _ _ 
  refine g_X52_run_j16_pr _ _ 
theorem g_X52_steps_l9_pr  {k39 : Int → ga_D → ga_S} (hk39 : ∀ (x1 : Int) (D : ga_D), ga_pr D (k39 x1 D)) : ∀ (n : Nat) (x1 x2 : Int) (D : ga_D), ga_pr D (g_X52_steps_l9 n x1 x2 D k39) := by
  intro n
  induction n with
  | zero => intro x1 x2 D; exact pr_none
  | succ n ih =>
    intro x1 x2 D
    show ga_pr D (if 384 ≤ x2 then (k39 x1 D) else (ga_ck (0 ≤ x2 ∧ x2 < 384) (if D 5215 x2 = 0 then (ga_let (aw_w32 (x1 + 0)) (fun v32 => ga_let (aw_w32 (x2 + 1)) (fun v33 => g_X52_steps_l9 n v32 v33 D k39))) else (ga_let (aw_w32 (x1 + 1)) (fun v32 => ga_let (aw_w32 (x2 + 1)) (fun v33 => g_X52_steps_l9 n v32 v33 D k39))))))
    refine pr_ite (fun c13 => ?_) (fun c13 => ?_)
    exact hk39 _ _ 
    refine pr_ck (fun ha22 => ?_)
    refine pr_ite (fun c23 => ?_) (fun c23 => ?_)
    refine pr_let (fun v32 => ?_)
    refine pr_let (fun v33 => ?_)
    exact ih _ _ _ 
    refine pr_let (fun v32 => ?_)
    refine pr_let (fun v33 => ?_)
    exact ih _ _ _ 
theorem g_X52_steps_pr {D : ga_D} : ga_pr D (g_X52_steps D) := by
  unfold g_X52_steps
  refine pr_upd (ga_Pn K_5208 rfl) (fun D2 => ?_)
  refine g_X52_steps_l9_pr (fun x1 D39 => ?_) _ _ _ _ 
  exact pr_some
theorem g_X52_columns_l9_pr  {k38 : Int → ga_D → ga_S} (hk38 : ∀ (x1 : Int) (D : ga_D), ga_pr D (k38 x1 D)) : ∀ (n : Nat) (x1 x2 : Int) (D : ga_D), ga_pr D (g_X52_columns_l9 n x1 x2 D k38) := by
  intro n
  induction n with
  | zero => intro x1 x2 D; exact pr_none
  | succ n ih =>
    intro x1 x2 D
    show ga_pr D (if 64 ≤ x2 then (k38 x1 D) else (ga_ck (0 ≤ x2 ∧ x2 < 64) (if D 5217 x2 < 0 then (ga_let (aw_w32 (x1 + 0)) (fun v31 => ga_let (aw_w32 (x2 + 1)) (fun v32 => g_X52_columns_l9 n v31 v32 D k38))) else (ga_let (aw_w32 (x1 + 1)) (fun v31 => ga_let (aw_w32 (x2 + 1)) (fun v32 => g_X52_columns_l9 n v31 v32 D k38))))))
    refine pr_ite (fun c12 => ?_) (fun c12 => ?_)
    exact hk38 _ _ 
    refine pr_ck (fun ha21 => ?_)
    refine pr_ite (fun c22 => ?_) (fun c22 => ?_)
    refine pr_let (fun v31 => ?_)
    refine pr_let (fun v32 => ?_)
    exact ih _ _ _ 
    refine pr_let (fun v31 => ?_)
    refine pr_let (fun v32 => ?_)
    exact ih _ _ _ 
theorem g_X52_columns_pr {D : ga_D} : ga_pr D (g_X52_columns D) := by
  unfold g_X52_columns
  refine pr_upd (ga_Pn K_5208 rfl) (fun D2 => ?_)
  refine g_X52_columns_l9_pr (fun x1 D38 => ?_) _ _ _ _ 
  exact pr_some
theorem g_X52_column_pr {x1 x2 : Int} {D : ga_D} : ga_pr D (g_X52_column x1 x2 D) := by
  unfold g_X52_column
  refine pr_upd (ga_Pn K_5208 rfl) (fun D2 => ?_)
  refine pr_bind (g_X52_columnSet_pr) (fun r7 D7 => ?_)
  refine pr_ite (fun c12 => ?_) (fun c12 => ?_)
  exact pr_some
  refine pr_ite (fun c16 => ?_) (fun c16 => ?_)
  exact pr_some
  refine pr_ite (fun c22 => ?_) (fun c22 => ?_)
  exact pr_some
  refine pr_ck (fun ha35 => ?_)
  exact pr_some
theorem g_X52_goal_pr {x1 : Int} {D : ga_D} : ga_pr D (g_X52_goal x1 D) := by
  unfold g_X52_goal
  refine pr_ite (fun c1 => ?_) (fun c1 => ?_)
  refine pr_ite (fun c18 => ?_) (fun c18 => ?_)
  exact pr_some
  refine pr_ck (fun ha28 => ?_)
  exact pr_some
  refine pr_ck (fun ha11 => ?_)
  exact pr_some
theorem g_X52_bound_pr {x1 : Int} {D : ga_D} : ga_pr D (g_X52_bound x1 D) := by
  unfold g_X52_bound
  refine pr_upd (ga_Pn K_5208 rfl) (fun D2 => ?_)
  refine pr_ite (fun c9 => ?_) (fun c9 => ?_)
  exact pr_some
  refine pr_bind (g_X52_all_pr) (fun r14 D14 => ?_)
  refine pr_bind (g_X52_solve_pr) (fun r18 D18 => ?_)
  refine pr_ite (fun c21 => ?_) (fun c21 => ?_)
  exact pr_some
  refine pr_bind (g_X52_goal_pr) (fun r26 D26 => ?_)
  exact pr_some
theorem g_X52_dual_pr {x1 x2 : Int} {D : ga_D} : ga_pr D (g_X52_dual x1 x2 D) := by
  unfold g_X52_dual
  refine pr_upd (ga_Pn K_5208 rfl) (fun D2 => ?_)
  refine pr_ite (fun c9 => ?_) (fun c9 => ?_)
  exact pr_some
  refine pr_ite (fun c13 => ?_) (fun c13 => ?_)
  exact pr_some
  refine pr_ite (fun c21 => ?_) (fun c21 => ?_)
  exact pr_some
  refine pr_bind (g_X52_all_pr) (fun r26 D26 => ?_)
  refine pr_bind (g_X52_solve_pr) (fun r30 D30 => ?_)
  refine pr_ite (fun c33 => ?_) (fun c33 => ?_)
  refine pr_bind (g_X52_goal_pr) (fun r40 D40 => ?_)
  refine pr_bind (g_X52_goal_pr) (fun r46 D46 => ?_)
  refine pr_bind (g_X52_all_pr) (fun r53 D53 => ?_)
  refine pr_bind (g_X52_solve_pr) (fun r65 D65 => ?_)
  refine pr_ite (fun c68 => ?_) (fun c68 => ?_)
  refine pr_bind (g_X52_goal_pr) (fun r76 D76 => ?_)
  refine pr_bind (g_X52_goal_pr) (fun r82 D82 => ?_)
  refine pr_let (fun v89 => ?_)
  refine pr_bind (g_X52_goal_pr) (fun r95 D95 => ?_)
  refine pr_let (fun v99 => ?_)
  refine pr_bind (g_X52_common_pr) (fun r105 D105 => ?_)
  refine pr_ite (fun c111 => ?_) (fun c111 => ?_)
  refine pr_ite (fun c124 => ?_) (fun c124 => ?_)
  exact pr_some
  refine pr_ck (fun hz131 => ?_)
  exact pr_some
  refine pr_ck (fun hz118 => ?_)
  exact pr_some
  exact pr_some
  exact pr_some
theorem g_X52_used_l48_pr  {k99 : Int → Int → ga_D → ga_S} (hk99 : ∀ (x2 x3 : Int) (D : ga_D), ga_pr D (k99 x2 x3 D)) : ∀ (n : Nat) (x2 x3 x4 : Int) (D : ga_D), ga_pr D (g_X52_used_l48 n x2 x3 x4 D k99) := by
  intro n
  induction n with
  | zero => intro x2 x3 x4 D; exact pr_none
  | succ n ih =>
    intro x2 x3 x4 D
    show ga_pr D (if 64 ≤ x4 then (k99 x2 x3 D) else (ga_ck (0 ≤ x4 ∧ x4 < 64) (if D 5228 x4 = 0 then (ga_ck (0 ≤ x4 ∧ x4 < 64) (ga_let (ga_set D 5228 x4 0) (fun D92 => ga_let (aw_w32 (x4 + 1)) (fun v93 => g_X52_used_l48 n x2 x3 v93 D92 k99)))) else (ga_ck (0 ≤ aw_w32 (504 + x4) ∧ aw_w32 (504 + x4) < 576) (if D 5225 (aw_w32 (504 + x4)) ≠ 0 then (ga_ck (0 ≤ x4 ∧ x4 < 64) (ga_let (ga_set D 5228 x4 0) (fun D92 => ga_let (aw_w32 (x4 + 1)) (fun v93 => g_X52_used_l48 n x2 x3 v93 D92 k99)))) else (ga_ck (0 ≤ x4 ∧ x4 < 64) (ga_let (ga_set D 5228 x4 1) (fun D92 => ga_let (aw_w32 (x4 + 1)) (fun v93 => g_X52_used_l48 n x2 x3 v93 D92 k99)))))))))
    refine pr_ite (fun c52 => ?_) (fun c52 => ?_)
    exact hk99 _ _ _ 
    refine pr_ck (fun ha67 => ?_)
    refine pr_ite (fun c68 => ?_) (fun c68 => ?_)
    refine pr_ck (fun ha92 => ?_)
    refine pr_upd (ga_Pn K_5228 rfl) (fun D92 => ?_)
    refine pr_let (fun v93 => ?_)
    exact ih _ _ _ _ 
    refine pr_ck (fun ha81 => ?_)
    refine pr_ite (fun c84 => ?_) (fun c84 => ?_)
    refine pr_ck (fun ha92 => ?_)
    refine pr_upd (ga_Pn K_5228 rfl) (fun D92 => ?_)
    refine pr_let (fun v93 => ?_)
    exact ih _ _ _ _ 
    refine pr_ck (fun ha92 => ?_)
    refine pr_upd (ga_Pn K_5228 rfl) (fun D92 => ?_)
    refine pr_let (fun v93 => ?_)
    exact ih _ _ _ _ 
theorem g_X52_used_pr {x1 x2 : Int} {D : ga_D} : ga_pr D (g_X52_used x1 x2 D) := by
  unfold g_X52_used
  refine pr_upd (ga_Pn K_5208 rfl) (fun D2 => ?_)
  refine pr_bind (g_X52_columnSet_pr) (fun r7 D7 => ?_)
  refine pr_ite (fun c12 => ?_) (fun c12 => ?_)
  exact pr_some
  refine pr_ite (fun c19 => ?_) (fun c19 => ?_)
  exact pr_some
  refine pr_ck (fun ha27 => ?_)
  refine pr_ite (fun c28 => ?_) (fun c28 => ?_)
  exact pr_some
  refine pr_bind (g_X52_all_pr) (fun r33 D33 => ?_)
  refine pr_bind (g_X52_solve_pr) (fun r37 D37 => ?_)
  refine pr_ite (fun c40 => ?_) (fun c40 => ?_)
  refine g_X52_used_l48_pr (fun x2 x3 D99 => ?_) _ _ _ _ _ 
  refine pr_bind (g_X52_aim_pr) (fun r101 D101 => ?_)
  refine pr_bind (g_X52_settle_pr) (fun r105 D105 => ?_)
  refine pr_ite (fun c109 => ?_) (fun c109 => ?_)
  refine pr_bind (g_X52_goal_pr) (fun r123 D123 => ?_)
  exact pr_some
  refine pr_bind (g_X52_goal_pr) (fun r114 D114 => ?_)
  exact pr_some
  exact pr_some
theorem g_X52_share_pr {x1 x2 : Int} {D : ga_D} : ga_pr D (g_X52_share x1 x2 D) := by
  unfold g_X52_share
  refine pr_upd (ga_Pn K_5208 rfl) (fun D2 => ?_)
  refine pr_bind (g_X52_columnSet_pr) (fun r7 D7 => ?_)
  refine pr_ite (fun c12 => ?_) (fun c12 => ?_)
  exact pr_some
  refine pr_ite (fun c19 => ?_) (fun c19 => ?_)
  refine pr_bind (g_X52_kilogramsOf_pr) (fun r26 D26 => ?_)
  refine pr_bind (g_X52_common_pr) (fun r39 D39 => ?_)
  refine pr_ite (fun c45 => ?_) (fun c45 => ?_)
  refine pr_ite (fun c58 => ?_) (fun c58 => ?_)
  exact pr_some
  refine pr_ck (fun hz68 => ?_)
  exact pr_some
  refine pr_ck (fun hz52 => ?_)
  exact pr_some
  exact pr_some
theorem g_X52_dropped_l9_pr  {k30 : Int → ga_D → ga_S} {k54 : ga_D → ga_S} (hk30 : ∀ (x3 : Int) (D : ga_D), ga_pr D (k30 x3 D)) (hk54 : ∀ (D : ga_D), ga_pr D (k54 D)) : ∀ (n : Nat) (x1 x2 x3 : Int) (D : ga_D), ga_pr D (g_X52_dropped_l9 n x1 x2 x3 D k30 k54) := by
  intro n
  induction n with
  | zero => intro x1 x2 x3 D; exact pr_none
  | succ n ih =>
    intro x1 x2 x3 D
    show ga_pr D (if 384 ≤ x3 then (k54 D) else (ga_ck (0 ≤ x3 ∧ x3 < 384) (if D 5215 x3 = 0 then (ga_let (aw_w32 (x3 + 1)) (fun v48 => g_X52_dropped_l9 n x1 x2 v48 D k30 k54)) else (if x2 ≠ x1 then (ga_let (aw_w32 (x2 + 1)) (fun v45 => ga_let (aw_w32 (x3 + 1)) (fun v48 => g_X52_dropped_l9 n x1 v45 v48 D k30 k54))) else (k30 x3 D)))))
    refine pr_ite (fun c13 => ?_) (fun c13 => ?_)
    exact hk54 _ 
    refine pr_ck (fun ha21 => ?_)
    refine pr_ite (fun c22 => ?_) (fun c22 => ?_)
    refine pr_let (fun v48 => ?_)
    exact ih _ _ _ _ 
    refine pr_ite (fun c27 => ?_) (fun c27 => ?_)
    refine pr_let (fun v45 => ?_)
    refine pr_let (fun v48 => ?_)
    exact ih _ _ _ _ 
    exact hk30 _ _ 
theorem g_X52_dropped_pr {x1 : Int} {D : ga_D} : ga_pr D (g_X52_dropped x1 D) := by
  unfold g_X52_dropped
  refine pr_upd (ga_Pn K_5208 rfl) (fun D2 => ?_)
  refine g_X52_dropped_l9_pr (fun x3 D30 => ?_) (fun D54 => ?_) _ _ _ _ _ 
  refine pr_ck (fun ha35 => ?_)
  refine pr_ite (fun c36 => ?_) (fun c36 => ?_)
  exact pr_some
  exact pr_some
  exact pr_some
theorem g_X52_isCut_pr {x1 : Int} {D : ga_D} : ga_pr D (g_X52_isCut x1 D) := by
  unfold g_X52_isCut
  refine pr_ite (fun c4 => ?_) (fun c4 => ?_)
  exact pr_some
  refine pr_ite (fun c11 => ?_) (fun c11 => ?_)
  exact pr_some
  refine pr_ite (fun c21 => ?_) (fun c21 => ?_)
  exact pr_some
  refine pr_bind (g_X52_kilogramsOf_pr) (fun r26 D26 => ?_)
  refine pr_ite (fun c33 => ?_) (fun c33 => ?_)
  exact pr_some
  exact pr_some
theorem g_X52_cuts_l9_pr  {k37 : Int → ga_D → ga_S} (hk37 : ∀ (x1 : Int) (D : ga_D), ga_pr D (k37 x1 D)) : ∀ (n : Nat) (x1 x2 : Int) (D : ga_D), ga_pr D (g_X52_cuts_l9 n x1 x2 D k37) := by
  intro n
  induction n with
  | zero => intro x1 x2 D; exact pr_none
  | succ n ih =>
    intro x1 x2 D
    show ga_pr D (if 64 ≤ x2 then (k37 x1 D) else (ga_bind (g_X52_isCut x2 D) (fun r18 D18 => if r18 = 0 then (ga_let (aw_w32 (x1 + 0)) (fun v30 => ga_let (aw_w32 (x2 + 1)) (fun v31 => g_X52_cuts_l9 n v30 v31 D18 k37))) else (ga_let (aw_w32 (x1 + 1)) (fun v30 => ga_let (aw_w32 (x2 + 1)) (fun v31 => g_X52_cuts_l9 n v30 v31 D18 k37))))))
    refine pr_ite (fun c12 => ?_) (fun c12 => ?_)
    exact hk37 _ _ 
    refine pr_bind (g_X52_isCut_pr) (fun r18 D18 => ?_)
    refine pr_ite (fun c21 => ?_) (fun c21 => ?_)
    refine pr_let (fun v30 => ?_)
    refine pr_let (fun v31 => ?_)
    exact ih _ _ _ 
    refine pr_let (fun v30 => ?_)
    refine pr_let (fun v31 => ?_)
    exact ih _ _ _ 
theorem g_X52_cuts_pr {D : ga_D} : ga_pr D (g_X52_cuts D) := by
  unfold g_X52_cuts
  refine pr_upd (ga_Pn K_5208 rfl) (fun D2 => ?_)
  refine g_X52_cuts_l9_pr (fun x1 D37 => ?_) _ _ _ _ 
  exact pr_some
theorem g_X52_bitOf_l4_pr  {k23 : Int → ga_D → ga_S} {k34 : ga_D → ga_S} (hk23 : ∀ (x3 : Int) (D : ga_D), ga_pr D (k23 x3 D)) (hk34 : ∀ (D : ga_D), ga_pr D (k34 D)) : ∀ (n : Nat) (x0 x1 x2 x3 : Int) (D : ga_D), ga_pr D (g_X52_bitOf_l4 n x0 x1 x2 x3 D k23 k34) := by
  intro n
  induction n with
  | zero => intro x0 x1 x2 x3 D; exact pr_none
  | succ n ih =>
    intro x0 x1 x2 x3 D
    show ga_pr D (if 6 ≤ x3 then (k34 D) else (ga_bind (g_X52_has x0 x3 D) (fun r12 D12 => if r12 = 0 then (ga_let (aw_w32 (x3 + 1)) (fun v28 => g_X52_bitOf_l4 n x0 x1 x2 v28 D12 k23 k34)) else (if x2 ≠ x1 then (ga_let (aw_w32 (x2 + 1)) (fun v25 => ga_let (aw_w32 (x3 + 1)) (fun v28 => g_X52_bitOf_l4 n x0 x1 v25 v28 D12 k23 k34))) else (k23 x3 D12)))))
    refine pr_ite (fun c7 => ?_) (fun c7 => ?_)
    exact hk34 _ 
    refine pr_bind (g_X52_has_pr) (fun r12 D12 => ?_)
    refine pr_ite (fun c15 => ?_) (fun c15 => ?_)
    refine pr_let (fun v28 => ?_)
    exact ih _ _ _ _ _ 
    refine pr_ite (fun c20 => ?_) (fun c20 => ?_)
    refine pr_let (fun v25 => ?_)
    refine pr_let (fun v28 => ?_)
    exact ih _ _ _ _ _ 
    exact hk23 _ _ 
theorem g_X52_bitOf_pr {x0 x1 : Int} {D : ga_D} : ga_pr D (g_X52_bitOf x0 x1 D) := by
  unfold g_X52_bitOf
  refine g_X52_bitOf_l4_pr (fun x3 D23 => ?_) (fun D34 => ?_) _ _ _ _ _ _ 
  exact pr_some
  exact pr_some
theorem g_X52_cut_l10_pr  {k31 : Int → Int → ga_D → ga_S} {k47 : ga_D → ga_S} (hk31 : ∀ (x2 x4 : Int) (D : ga_D), ga_pr D (k31 x2 x4 D)) (hk47 : ∀ (D : ga_D), ga_pr D (k47 D)) : ∀ (n : Nat) (x1 x2 x3 x4 : Int) (D : ga_D), ga_pr D (g_X52_cut_l10 n x1 x2 x3 x4 D k31 k47) := by
  intro n
  induction n with
  | zero => intro x1 x2 x3 x4 D; exact pr_none
  | succ n ih =>
    intro x1 x2 x3 x4 D
    show ga_pr D (if 64 ≤ x4 then (k47 D) else (ga_bind (g_X52_isCut x4 D) (fun r20 D20 => if r20 = 0 then (ga_let (aw_w32 (x4 + 1)) (fun v41 => g_X52_cut_l10 n x1 x2 x3 v41 D20 k31 k47)) else (if x3 ≠ x1 then (ga_let (aw_w32 (x3 + 1)) (fun v38 => ga_let (aw_w32 (x4 + 1)) (fun v41 => g_X52_cut_l10 n x1 x2 v38 v41 D20 k31 k47))) else (k31 x2 x4 D20)))))
    refine pr_ite (fun c14 => ?_) (fun c14 => ?_)
    exact hk47 _ 
    refine pr_bind (g_X52_isCut_pr) (fun r20 D20 => ?_)
    refine pr_ite (fun c23 => ?_) (fun c23 => ?_)
    refine pr_let (fun v41 => ?_)
    exact ih _ _ _ _ _ 
    refine pr_ite (fun c28 => ?_) (fun c28 => ?_)
    refine pr_let (fun v38 => ?_)
    refine pr_let (fun v41 => ?_)
    exact ih _ _ _ _ _ 
    exact hk31 _ _ _ 
theorem g_X52_cut_pr {x1 x2 : Int} {D : ga_D} : ga_pr D (g_X52_cut x1 x2 D) := by
  unfold g_X52_cut
  refine pr_upd (ga_Pn K_5208 rfl) (fun D2 => ?_)
  refine g_X52_cut_l10_pr (fun x2 x4 D31 => ?_) (fun D47 => ?_) _ _ _ _ _ _ 
  refine pr_bind (g_X52_bitOf_pr) (fun r34 D34 => ?_)
  exact pr_some
  exact pr_some
theorem g_X52_check_l34_pr  {k87 : Int → Int → ga_D → ga_S} (hk87 : ∀ (x1 x2 : Int) (D : ga_D), ga_pr D (k87 x1 x2 D)) : ∀ (n : Nat) (x1 x2 x3 : Int) (D : ga_D), ga_pr D (g_X52_check_l34 n x1 x2 x3 D k87) := by
  intro n
  induction n with
  | zero => intro x1 x2 x3 D; exact pr_none
  | succ n ih =>
    intro x1 x2 x3 D
    show ga_pr D (if 6 ≤ x3 then (k87 x1 x2 D) else (ga_ck (0 ≤ aw_w32 ((aw_w32 (6 * x2)) + x3) ∧ aw_w32 ((aw_w32 (6 * x2)) + x3) < 384) (if D 5218 (aw_w32 ((aw_w32 (6 * x2)) + x3)) < 0 then (k87 x1 x2 D) else (ga_ck (0 ≤ aw_w32 ((aw_w32 (6 * x2)) + x3) ∧ aw_w32 ((aw_w32 (6 * x2)) + x3) < 384) (ga_ck (0 ≤ x3 ∧ x3 < 6) (ga_let (ga_set D 5220 x3 (D 5218 (aw_w32 ((aw_w32 (6 * x2)) + x3)))) (fun D70 => ga_let (ga_set D70 5208 21 (aw_w32 ((D70 5208 21) + 1))) (fun D78 => ga_let (aw_w32 (x3 + 1)) (fun v81 => g_X52_check_l34 n x1 x2 v81 D78 k87)))))))))
    refine pr_ite (fun c37 => ?_) (fun c37 => ?_)
    exact hk87 _ _ _ 
    refine pr_ck (fun ha50 => ?_)
    refine pr_ite (fun c51 => ?_) (fun c51 => ?_)
    exact hk87 _ _ _ 
    refine pr_ck (fun ha69 => ?_)
    refine pr_ck (fun ha70 => ?_)
    refine pr_upd (ga_Pn K_5220 rfl) (fun D70 => ?_)
    refine pr_upd (ga_Pn K_5208 rfl) (fun D78 => ?_)
    refine pr_let (fun v81 => ?_)
    exact ih _ _ _ _ 
theorem g_X52_check_j87_pr  {k107 : Int → ga_D → ga_S} {k9 : Int → Int → ga_D → ga_S} (hk107 : ∀ (x1 : Int) (D : ga_D), ga_pr D (k107 x1 D)) (hk9 : ∀ (x1 x2 : Int) (D : ga_D), ga_pr D (k9 x1 x2 D)) (x1 x2 : Int) (D : ga_D) : ga_pr D (g_X52_check_j87 x1 x2 D k107 k9) := by
  unfold g_X52_check_j87
  refine pr_bind (g_X52_isRound_pr) (fun r88 D88 => ?_)
  refine pr_ite (fun c91 => ?_) (fun c91 => ?_)
  exact hk107 _ _ 
  refine pr_bind (g_X52_costOf_pr) (fun r95 D95 => ?_)
  refine pr_ck (fun ha103 => ?_)
  refine pr_ite (fun c104 => ?_) (fun c104 => ?_)
  refine pr_let (fun v109 => ?_)
  exact hk9 _ _ _ 
  exact hk107 _ _ 
theorem g_X52_check_l9_pr  {k107 : Int → ga_D → ga_S} {k115 : ga_D → ga_S} (hk107 : ∀ (x1 : Int) (D : ga_D), ga_pr D (k107 x1 D)) (hk115 : ∀ (D : ga_D), ga_pr D (k115 D)) : ∀ (n : Nat) (x1 x2 : Int) (D : ga_D), ga_pr D (g_X52_check_l9 n x1 x2 D k107 k115) := by
  intro n
  induction n with
  | zero => intro x1 x2 D; exact pr_none
  | succ n ih =>
    intro x1 x2 D
    show ga_pr D (if 64 ≤ x2 then (k115 D) else (ga_ck (0 ≤ x2 ∧ x2 < 64) (if D 5217 x2 < 0 then (ga_let (aw_w32 (x2 + 1)) (fun v109 => g_X52_check_l9 n x1 v109 D k107 k115)) else (ga_let (aw_w32 (x1 + 1)) (fun v24 => ga_let (ga_set D 5208 21 0) (fun D29 => g_X52_check_l34 aw_fu v24 x2 0 D29 (fun x1 x2 D87 => g_X52_check_j87 x1 x2 D87 (fun x1 D107 => k107 x1 D107) (fun x1 x2 D9 => g_X52_check_l9 n x1 x2 D9 k107 k115))))))))
    refine pr_ite (fun c12 => ?_) (fun c12 => ?_)
    exact hk115 _ 
    refine pr_ck (fun ha20 => ?_)
    refine pr_ite (fun c21 => ?_) (fun c21 => ?_)
    refine pr_let (fun v109 => ?_)
    exact ih _ _ _ 
    refine pr_let (fun v24 => ?_)
    refine pr_upd (ga_Pn K_5208 rfl) (fun D29 => ?_)
    refine g_X52_check_l34_pr (fun x1 x2 D87 => ?_) _ _ _ _ _ 
    refine g_X52_check_j87_pr (fun x1 D107 => ?_) (fun x1 x2 D9 => ?_) _ _ _ 
    exact hk107 _ _ 
    exact ih _ _ _ 
theorem g_X52_check_pr {D : ga_D} : ga_pr D (g_X52_check D) := by
  unfold g_X52_check
  refine pr_upd (ga_Pn K_5208 rfl) (fun D2 => ?_)
  refine g_X52_check_l9_pr (fun x1 D107 => ?_) (fun D115 => ?_) _ _ _ _ 
  exact pr_some
  exact pr_some
theorem g_X52_labelsClosed_l20_pr  {k66 : Int → Int → ga_D → ga_S} (hk66 : ∀ (x1 x2 : Int) (D : ga_D), ga_pr D (k66 x1 x2 D)) : ∀ (n : Nat) (x1 x2 x3 : Int) (D : ga_D), ga_pr D (g_X52_labelsClosed_l20 n x1 x2 x3 D k66) := by
  intro n
  induction n with
  | zero => intro x1 x2 x3 D; exact pr_none
  | succ n ih =>
    intro x1 x2 x3 D
    show ga_pr D (if x2 ≤ x3 then (k66 x1 x2 D) else (ga_ck (0 ≤ x2 ∧ x2 < 64) (if D 5217 x2 < 0 then (k66 x1 x2 D) else (if x1 = 0 then (ga_let (aw_w32 (x3 + 1)) (fun v60 => g_X52_labelsClosed_l20 n 0 x2 v60 D k66)) else (if aw_and x3 x2 ≠ x3 then (ga_let (aw_w32 (x3 + 1)) (fun v60 => g_X52_labelsClosed_l20 n 1 x2 v60 D k66)) else (ga_ck (0 ≤ x3 ∧ x3 < 64) (if D 5217 x3 < 0 then (ga_let (aw_w32 (x3 + 1)) (fun v60 => g_X52_labelsClosed_l20 n 0 x2 v60 D k66)) else (ga_let (aw_w32 (x3 + 1)) (fun v60 => g_X52_labelsClosed_l20 n 1 x2 v60 D k66)))))))))
    refine pr_ite (fun c22 => ?_) (fun c22 => ?_)
    exact hk66 _ _ _ 
    refine pr_ck (fun ha30 => ?_)
    refine pr_ite (fun c31 => ?_) (fun c31 => ?_)
    exact hk66 _ _ _ 
    refine pr_ite (fun c35 => ?_) (fun c35 => ?_)
    refine pr_let (fun v60 => ?_)
    exact ih _ _ _ _ 
    refine pr_ite (fun c42 => ?_) (fun c42 => ?_)
    refine pr_let (fun v60 => ?_)
    exact ih _ _ _ _ 
    refine pr_ck (fun ha50 => ?_)
    refine pr_ite (fun c51 => ?_) (fun c51 => ?_)
    refine pr_let (fun v60 => ?_)
    exact ih _ _ _ _ 
    refine pr_let (fun v60 => ?_)
    exact ih _ _ _ _ 
theorem g_X52_labelsClosed_l12_pr  {k72 : Int → ga_D → ga_S} (hk72 : ∀ (x1 : Int) (D : ga_D), ga_pr D (k72 x1 D)) : ∀ (n : Nat) (x1 x2 : Int) (D : ga_D), ga_pr D (g_X52_labelsClosed_l12 n x1 x2 D k72) := by
  intro n
  induction n with
  | zero => intro x1 x2 D; exact pr_none
  | succ n ih =>
    intro x1 x2 D
    show ga_pr D (if 64 ≤ x2 then (k72 x1 D) else (g_X52_labelsClosed_l20 aw_fu x1 x2 1 D (fun x1 x2 D66 => ga_let (aw_w32 (x2 + 1)) (fun v66 => g_X52_labelsClosed_l12 n x1 v66 D66 k72))))
    refine pr_ite (fun c15 => ?_) (fun c15 => ?_)
    exact hk72 _ _ 
    refine g_X52_labelsClosed_l20_pr (fun x1 x2 D66 => ?_) _ _ _ _ _ 
    refine pr_let (fun v66 => ?_)
    exact ih _ _ _ 
theorem g_X52_labelsClosed_pr {D : ga_D} : ga_pr D (g_X52_labelsClosed D) := by
  unfold g_X52_labelsClosed
  refine pr_upd (ga_Pn K_5208 rfl) (fun D2 => ?_)
  refine pr_let (fun v9 => ?_)
  refine g_X52_labelsClosed_l12_pr (fun x1 D72 => ?_) _ _ _ _ 
  refine pr_ck (fun hr73 => ?_)
  exact pr_some
theorem g_X52_thrown_pr {D : ga_D} : ga_pr D (g_X52_thrown D) := by
  unfold g_X52_thrown
  exact pr_some
