theorem g_X12_clearParts_l2_pr  {k28 : ga_D → ga_S} (hk28 : ∀ (D : ga_D), ga_pr D (k28 D)) : ∀ (n : Nat) (x1 : Int) (D : ga_D), ga_pr D (g_X12_clearParts_l2 n x1 D k28) := by
  intro n
  induction n with
  | zero => intro x1 D; exact pr_none
  | succ n ih =>
    intro x1 D
    show ga_pr D (if 16 ≤ x1 then (k28 D) else (ga_ck (0 ≤ x1 ∧ x1 < 16) (ga_let (ga_set D 4822 x1 (-1)) (fun D14 => ga_ck (0 ≤ x1 ∧ x1 < 16) (ga_let (ga_set D14 4823 x1 (-1)) (fun D21 => ga_let (aw_w32 (x1 + 1)) (fun v22 => g_X12_clearParts_l2 n v22 D21 k28)))))))
    refine pr_ite (fun c5 => ?_) (fun c5 => ?_)
    exact hk28 _ 
    refine pr_ck (fun ha14 => ?_)
    refine pr_upd (ga_Pn K_4822 rfl) (fun D14 => ?_)
    refine pr_ck (fun ha21 => ?_)
    refine pr_upd (ga_Pn K_4823 rfl) (fun D21 => ?_)
    refine pr_let (fun v22 => ?_)
    exact ih _ _ 
theorem g_X12_clearParts_l30_pr  {k49 : ga_D → ga_S} (hk49 : ∀ (D : ga_D), ga_pr D (k49 D)) : ∀ (n : Nat) (x1 : Int) (D : ga_D), ga_pr D (g_X12_clearParts_l30 n x1 D k49) := by
  intro n
  induction n with
  | zero => intro x1 D; exact pr_none
  | succ n ih =>
    intro x1 D
    show ga_pr D (if 8 ≤ x1 then (k49 D) else (ga_ck (0 ≤ x1 ∧ x1 < 8) (ga_let (ga_set D 4824 x1 (-1)) (fun D42 => ga_let (aw_w32 (x1 + 1)) (fun v43 => g_X12_clearParts_l30 n v43 D42 k49)))))
    refine pr_ite (fun c33 => ?_) (fun c33 => ?_)
    exact hk49 _ 
    refine pr_ck (fun ha42 => ?_)
    refine pr_upd (ga_Pn K_4824 rfl) (fun D42 => ?_)
    refine pr_let (fun v43 => ?_)
    exact ih _ _ 
theorem g_X12_clearParts_pr {D : ga_D} : ga_pr D (g_X12_clearParts D) := by
  unfold g_X12_clearParts
  refine g_X12_clearParts_l2_pr (fun D28 => ?_) _ _ _ 
  refine g_X12_clearParts_l30_pr (fun D49 => ?_) _ _ _ 
  exact pr_some
theorem g_X12_unit_pr {x1 : Int} {D : ga_D} : ga_pr D (g_X12_unit x1 D) := by
  unfold g_X12_unit
  refine pr_ite (fun c1 => ?_) (fun c1 => ?_)
  exact pr_some
  refine pr_ite (fun c8 => ?_) (fun c8 => ?_)
  exact pr_some
  refine pr_ite (fun c21 => ?_) (fun c21 => ?_)
  refine pr_upd (ga_Pn K_4783 rfl) (fun D44 => ?_)
  refine pr_ck (fun ha49 => ?_)
  refine pr_upd (ga_Pn K_4784 rfl) (fun D49 => ?_)
  exact pr_some
  exact pr_some
theorem g_X12_part_pr {x1 x2 x4 : Int} {D : ga_D} : ga_pr D (g_X12_part x1 x2 x4 D) := by
  unfold g_X12_part
  refine pr_ite (fun c1 => ?_) (fun c1 => ?_)
  exact pr_some
  refine pr_ite (fun c7 => ?_) (fun c7 => ?_)
  exact pr_some
  refine pr_ite (fun c13 => ?_) (fun c13 => ?_)
  exact pr_some
  refine pr_ite (fun c20 => ?_) (fun c20 => ?_)
  exact pr_some
  refine pr_ite (fun c29 => ?_) (fun c29 => ?_)
  refine pr_ck (fun ha41 => ?_)
  refine pr_upd (ga_Pn K_4822 rfl) (fun D41 => ?_)
  refine pr_ck (fun ha50 => ?_)
  refine pr_upd (ga_Pn K_4823 rfl) (fun D50 => ?_)
  exact pr_some
  exact pr_some
theorem g_X12_edition_l5_pr  {k46 : Int → ga_D → ga_S} (hk46 : ∀ (x3 : Int) (D : ga_D), ga_pr D (k46 x3 D)) : ∀ (n : Nat) (x1 x3 x4 : Int) (D : ga_D), ga_pr D (g_X12_edition_l5 n x1 x3 x4 D k46) := by
  intro n
  induction n with
  | zero => intro x1 x3 x4 D; exact pr_none
  | succ n ih =>
    intro x1 x3 x4 D
    show ga_pr D (if D 4809 0 ≤ x4 then (k46 x3 D) else (ga_ck (0 ≤ x4 ∧ x4 < 1500) (if x1 < D 4810 x4 then (ga_let (aw_w32 (x4 + 1)) (fun v40 => g_X12_edition_l5 n x1 x3 v40 D k46)) else (ga_let (aw_w32 (x4 + 1)) (fun v40 => g_X12_edition_l5 n x1 x4 v40 D k46)))))
    refine pr_ite (fun c14 => ?_) (fun c14 => ?_)
    exact hk46 _ _ 
    refine pr_ck (fun ha26 => ?_)
    refine pr_ite (fun c30 => ?_) (fun c30 => ?_)
    refine pr_let (fun v40 => ?_)
    exact ih _ _ _ _ 
    refine pr_let (fun v40 => ?_)
    exact ih _ _ _ _ 
theorem g_X12_edition_pr {x1 : Int} {D : ga_D} : ga_pr D (g_X12_edition x1 D) := by
  unfold g_X12_edition
  refine g_X12_edition_l5_pr (fun x3 D46 => ?_) _ _ _ _ _ 
  exact pr_some
theorem g_X12_begin_pr {x1 : Int} {D : ga_D} : ga_pr D (g_X12_begin x1 D) := by
  unfold g_X12_begin
  refine pr_bind (g_X12_edition_pr) (fun r3 D3 => ?_)
  refine pr_upd (ga_Pn K_4782 rfl) (fun D6 => ?_)
  refine pr_upd (ga_Pn K_4782 rfl) (fun D11 => ?_)
  refine pr_upd (ga_Pn K_4782 rfl) (fun D16 => ?_)
  refine pr_upd (ga_Pn K_4782 rfl) (fun D21 => ?_)
  refine pr_upd (ga_Pn K_4782 rfl) (fun D26 => ?_)
  exact pr_some
theorem g_X12_firstRule_pr {D : ga_D} : ga_pr D (g_X12_firstRule D) := by
  unfold g_X12_firstRule
  refine pr_ite (fun c5 => ?_) (fun c5 => ?_)
  refine pr_ck (fun ha23 => ?_)
  exact pr_some
  exact pr_some
theorem g_X12_ruleEnd_pr {D : ga_D} : ga_pr D (g_X12_ruleEnd D) := by
  unfold g_X12_ruleEnd
  refine pr_ite (fun c5 => ?_) (fun c5 => ?_)
  refine pr_ck (fun ha25 => ?_)
  exact pr_some
  exact pr_some
theorem g_X12_hasTests_l16_pr  {k82 : Int → Int → Int → ga_D → ga_S} (hk82 : ∀ (x2 x3 x4 : Int) (D : ga_D), ga_pr D (k82 x2 x3 x4 D)) : ∀ (n : Nat) (x1 x2 x3 x4 x5 : Int) (D : ga_D), ga_pr D (g_X12_hasTests_l16 n x1 x2 x3 x4 x5 D k82) := by
  intro n
  induction n with
  | zero => intro x1 x2 x3 x4 x5 D; exact pr_none
  | succ n ih =>
    intro x1 x2 x3 x4 x5 D
    show ga_pr D (ga_ck (0 ≤ aw_w32 (x1 + 1) ∧ aw_w32 (x1 + 1) < 61) (if D 4813 (aw_w32 (x1 + 1)) ≤ x5 then (k82 x2 x3 x4 D) else (ga_ck (0 ≤ x5 ∧ x5 < 1500) (if D 4815 x5 ≠ 0 then (ga_let (aw_w32 (x5 + 1)) (fun v76 => g_X12_hasTests_l16 n x1 x2 x3 x4 v76 D k82)) else (ga_ck (0 ≤ x5 ∧ x5 < 1500) (ga_ck (0 ≤ D 4816 x5 ∧ D 4816 x5 < 8) (if D 4824 (D 4816 x5) = (-1) then (ga_let (aw_and x4 0) (fun v74 => ga_let (aw_w32 (x5 + 1)) (fun v76 => g_X12_hasTests_l16 n x1 x2 1 v74 v76 D k82))) else (ga_let (aw_and x4 1) (fun v74 => ga_let (aw_w32 (x5 + 1)) (fun v76 => g_X12_hasTests_l16 n x1 x2 1 v74 v76 D k82))))))))))
    refine pr_ck (fun ha28 => ?_)
    refine pr_ite (fun c29 => ?_) (fun c29 => ?_)
    exact hk82 _ _ _ _ 
    refine pr_ck (fun ha41 => ?_)
    refine pr_ite (fun c42 => ?_) (fun c42 => ?_)
    refine pr_let (fun v76 => ?_)
    exact ih _ _ _ _ _ _ 
    refine pr_ck (fun ha62 => ?_)
    refine pr_ck (fun ha63 => ?_)
    refine pr_ite (fun c65 => ?_) (fun c65 => ?_)
    refine pr_let (fun v74 => ?_)
    refine pr_let (fun v76 => ?_)
    exact ih _ _ _ _ _ _ 
    refine pr_let (fun v74 => ?_)
    refine pr_let (fun v76 => ?_)
    exact ih _ _ _ _ _ _ 
theorem g_X12_hasTests_pr {x1 x2 : Int} {D : ga_D} : ga_pr D (g_X12_hasTests x1 x2 D) := by
  unfold g_X12_hasTests
  refine pr_ck (fun ha13 => ?_)
  refine pr_let (fun v14 => ?_)
  refine g_X12_hasTests_l16_pr (fun x2 x3 x4 D82 => ?_) _ _ _ _ _ _ _ 
  refine pr_ite (fun c83 => ?_) (fun c83 => ?_)
  exact pr_some
  refine pr_ite (fun c88 => ?_) (fun c88 => ?_)
  exact pr_some
  refine pr_ite (fun c92 => ?_) (fun c92 => ?_)
  exact pr_some
  exact pr_some
theorem g_X12_byTest_j49_pr  (x2 s0 : Int) (D : ga_D) : ga_pr D (g_X12_byTest_j49 x2 s0 D) := by
  unfold g_X12_byTest_j49
  refine pr_ite (fun c50 => ?_) (fun c50 => ?_)
  exact pr_some
  exact pr_some
theorem g_X12_byTest_j19_pr  (x1 x2 x3 s0 : Int) (D : ga_D) : ga_pr D (g_X12_byTest_j19 x1 x2 x3 s0 D) := by
  unfold g_X12_byTest_j19
  refine pr_upd (ga_Pn K_4782 rfl) (fun D19 => ?_)
  refine pr_ite (fun c27 => ?_) (fun c27 => ?_)
  refine pr_ck (fun ha39 => ?_)
  refine pr_ite (fun c41 => ?_) (fun c41 => ?_)
  refine g_X12_byTest_j49_pr _ _ _ 
  refine g_X12_byTest_j49_pr _ _ _ 
  exact pr_some
theorem g_X12_byTest_pr {x1 x2 x3 : Int} {D : ga_D} : ga_pr D (g_X12_byTest x1 x2 x3 D) := by
  unfold g_X12_byTest
  refine pr_ck (fun ha6 => ?_)
  refine pr_ite (fun c8 => ?_) (fun c8 => ?_)
  refine g_X12_byTest_j19_pr _ _ _ _ _ 
  refine g_X12_byTest_j19_pr _ _ _ _ _ 
theorem g_X12_byClass_j41_pr  (s0 : Int) (D : ga_D) : ga_pr D (g_X12_byClass_j41 s0 D) := by
  unfold g_X12_byClass_j41
  refine pr_upd (ga_Pn K_4782 rfl) (fun D41 => ?_)
  refine pr_ite (fun c49 => ?_) (fun c49 => ?_)
  exact pr_some
  exact pr_some
theorem g_X12_byClass_pr {x1 : Int} {D : ga_D} : ga_pr D (g_X12_byClass x1 D) := by
  unfold g_X12_byClass
  refine pr_upd (ga_Pn K_4782 rfl) (fun D2 => ?_)
  refine pr_ite (fun c14 => ?_) (fun c14 => ?_)
  refine pr_ite (fun c29 => ?_) (fun c29 => ?_)
  refine g_X12_byClass_j41_pr _ _ 
  refine g_X12_byClass_j41_pr _ _ 
  exact pr_some
theorem g_X12_term_j48_pr  (x1 x5 s0 : Int) (D : ga_D) : ga_pr D (g_X12_term_j48 x1 x5 s0 D) := by
  unfold g_X12_term_j48
  refine pr_ite (fun c55 => ?_) (fun c55 => ?_)
  refine pr_ck (fun hz68 => ?_)
  exact pr_some
  exact pr_some
theorem g_X12_term_j29_pr  (x1 x2 x4 x5 s0 : Int) (D : ga_D) : ga_pr D (g_X12_term_j29 x1 x2 x4 x5 s0 D) := by
  unfold g_X12_term_j29
  refine pr_ite (fun c35 => ?_) (fun c35 => ?_)
  refine g_X12_term_j48_pr _ _ _ _ 
  refine g_X12_term_j48_pr _ _ _ _ 
theorem g_X12_term_j11_pr  (x1 x2 x3 x4 x5 s0 s1 : Int) (D : ga_D) : ga_pr D (g_X12_term_j11 x1 x2 x3 x4 x5 s0 s1 D) := by
  unfold g_X12_term_j11
  refine pr_ite (fun c11 => ?_) (fun c11 => ?_)
  refine pr_ck (fun ha28 => ?_)
  refine g_X12_term_j29_pr _ _ _ _ _ _ 
  refine pr_ck (fun ha19 => ?_)
  refine g_X12_term_j29_pr _ _ _ _ _ _ 
theorem g_X12_term_pr {x1 x2 x3 x4 x5 x6 : Int} {D : ga_D} : ga_pr D (g_X12_term x1 x2 x3 x4 x5 x6 D) := by
  unfold g_X12_term
  refine pr_ite (fun c3 => ?_) (fun c3 => ?_)
  refine g_X12_term_j11_pr _ _ _ _ _ _ _ _ 
  refine g_X12_term_j11_pr _ _ _ _ _ _ _ _ 
theorem g_X12_termAt_pr {x1 x2 : Int} {D : ga_D} : ga_pr D (g_X12_termAt x1 x2 D) := by
  unfold g_X12_termAt
  refine pr_let (fun v3 => ?_)
  refine pr_ck (fun ha13 => ?_)
  refine pr_ck (fun ha24 => ?_)
  refine pr_ck (fun ha35 => ?_)
  refine pr_ck (fun ha46 => ?_)
  refine pr_ck (fun ha57 => ?_)
  refine pr_bind (g_X12_term_pr) (fun r59 D59 => ?_)
  exact pr_some
theorem g_X12_sumOf_l19_pr  {k144 : Int → ga_D → ga_S} (hk144 : ∀ (x4 : Int) (D : ga_D), ga_pr D (k144 x4 D)) : ∀ (n : Nat) (x1 x2 x3 x4 x6 : Int) (D : ga_D), ga_pr D (g_X12_sumOf_l19 n x1 x2 x3 x4 x6 D k144) := by
  intro n
  induction n with
  | zero => intro x1 x2 x3 x4 x6 D; exact pr_none
  | succ n ih =>
    intro x1 x2 x3 x4 x6 D
    show ga_pr D (ga_ck (0 ≤ x1 ∧ x1 < 1500) (if D 4820 x1 ≤ x6 then (k144 x4 D) else (if D 4782 17 ≠ (-1) then (k144 x4 D) else (ga_ck (0 ≤ aw_w32 ((aw_w32 (5 * x6)) + 2) ∧ aw_w32 ((aw_w32 (5 * x6)) + 2) < 7500) (ga_let (D 4819 (aw_w32 ((aw_w32 (5 * x6)) + 2))) (fun v55 => ga_ck (0 ≤ v55 ∧ v55 < 16) (if D 4822 v55 ≠ (-1) then (ga_ck (0 ≤ aw_w32 ((aw_w32 (5 * x6)) + 4) ∧ aw_w32 ((aw_w32 (5 * x6)) + 4) < 7500) (if D 4819 (aw_w32 ((aw_w32 (5 * x6)) + 4)) ≠ 0 then (ga_bind (g_X12_termAt x6 x2 D) (fun r111 D111 => if x3 = (-1) then (ga_let (aw_w64 (x4 + r111)) (fun v136 => ga_let (aw_w32 (x6 + 1)) (fun v138 => g_X12_sumOf_l19 n x1 x2 x3 v136 v138 D111 k144))) else (if x3 ≠ v55 then (ga_let (aw_w64 (x4 + 0)) (fun v136 => ga_let (aw_w32 (x6 + 1)) (fun v138 => g_X12_sumOf_l19 n x1 x2 x3 v136 v138 D111 k144))) else (ga_let (aw_w64 (x4 + r111)) (fun v136 => ga_let (aw_w32 (x6 + 1)) (fun v138 => g_X12_sumOf_l19 n x1 x2 x3 v136 v138 D111 k144)))))) else (ga_let (ga_set D 4782 17 (aw_w32 (200 + v55))) (fun D101 => ga_let (aw_w32 (x6 + 1)) (fun v138 => g_X12_sumOf_l19 n x1 x2 x3 x4 v138 D101 k144))))) else (ga_let (ga_set D 4782 17 v55) (fun D71 => ga_let (aw_w32 (x6 + 1)) (fun v138 => g_X12_sumOf_l19 n x1 x2 x3 x4 v138 D71 k144))))))))))
    refine pr_ck (fun ha29 => ?_)
    refine pr_ite (fun c30 => ?_) (fun c30 => ?_)
    exact hk144 _ _ 
    refine pr_ite (fun c38 => ?_) (fun c38 => ?_)
    exact hk144 _ _ 
    refine pr_ck (fun ha54 => ?_)
    refine pr_let (fun v55 => ?_)
    refine pr_ck (fun ha63 => ?_)
    refine pr_ite (fun c65 => ?_) (fun c65 => ?_)
    refine pr_ck (fun ha90 => ?_)
    refine pr_ite (fun c91 => ?_) (fun c91 => ?_)
    refine pr_bind (g_X12_termAt_pr) (fun r111 D111 => ?_)
    refine pr_ite (fun c120 => ?_) (fun c120 => ?_)
    refine pr_let (fun v136 => ?_)
    refine pr_let (fun v138 => ?_)
    exact ih _ _ _ _ _ _ 
    refine pr_ite (fun c126 => ?_) (fun c126 => ?_)
    refine pr_let (fun v136 => ?_)
    refine pr_let (fun v138 => ?_)
    exact ih _ _ _ _ _ _ 
    refine pr_let (fun v136 => ?_)
    refine pr_let (fun v138 => ?_)
    exact ih _ _ _ _ _ _ 
    refine pr_upd (ga_Pn K_4782 rfl) (fun D101 => ?_)
    refine pr_let (fun v138 => ?_)
    exact ih _ _ _ _ _ _ 
    refine pr_upd (ga_Pn K_4782 rfl) (fun D71 => ?_)
    refine pr_let (fun v138 => ?_)
    exact ih _ _ _ _ _ _ 
theorem g_X12_sumOf_pr {x1 x2 x3 : Int} {D : ga_D} : ga_pr D (g_X12_sumOf x1 x2 x3 D) := by
  unfold g_X12_sumOf
  refine pr_upd (ga_Pn K_4782 rfl) (fun D5 => ?_)
  refine pr_ck (fun ha16 => ?_)
  refine pr_let (fun v17 => ?_)
  refine g_X12_sumOf_l19_pr (fun x4 D144 => ?_) _ _ _ _ _ _ _ 
  exact pr_some
theorem g_X12_bySum_j25_pr  (x1 x2 s0 : Int) (D : ga_D) : ga_pr D (g_X12_bySum_j25 x1 x2 s0 D) := by
  unfold g_X12_bySum_j25
  refine pr_ite (fun c28 => ?_) (fun c28 => ?_)
  refine pr_ite (fun c45 => ?_) (fun c45 => ?_)
  exact pr_some
  exact pr_some
  refine pr_ite (fun c35 => ?_) (fun c35 => ?_)
  exact pr_some
  exact pr_some
theorem g_X12_bySum_pr {x1 x2 x4 x6 : Int} {D : ga_D} : ga_pr D (g_X12_bySum x1 x2 x4 x6 D) := by
  unfold g_X12_bySum
  refine pr_ite (fun c5 => ?_) (fun c5 => ?_)
  refine pr_ite (fun c15 => ?_) (fun c15 => ?_)
  refine g_X12_bySum_j25_pr _ _ _ _ 
  refine g_X12_bySum_j25_pr _ _ _ _ 
  exact pr_some
theorem g_X12_itemState_j116_pr  (x1 x2 x4 s0 : Int) (D : ga_D) : ga_pr D (g_X12_itemState_j116 x1 x2 x4 s0 D) := by
  unfold g_X12_itemState_j116
  refine pr_ck (fun ha124 => ?_)
  refine pr_bind (g_X12_bySum_pr) (fun r129 D129 => ?_)
  exact pr_some
theorem g_X12_itemState_j40_pr  (x1 s0 s1 : Int) (D : ga_D) : ga_pr D (g_X12_itemState_j40 x1 s0 s1 D) := by
  unfold g_X12_itemState_j40
  refine pr_ck (fun ha48 => ?_)
  refine pr_bind (g_X12_byTest_pr) (fun r49 D49 => ?_)
  exact pr_some
theorem g_X12_itemState_pr {x1 : Int} {D : ga_D} : ga_pr D (g_X12_itemState x1 D) := by
  unfold g_X12_itemState
  refine pr_ck (fun ha8 => ?_)
  refine pr_ite (fun c9 => ?_) (fun c9 => ?_)
  refine pr_ck (fun ha61 => ?_)
  refine pr_ite (fun c63 => ?_) (fun c63 => ?_)
  refine pr_bind (g_X12_sumOf_pr) (fun r84 D84 => ?_)
  refine pr_bind (g_X12_sumOf_pr) (fun r92 D92 => ?_)
  refine pr_ck (fun ha106 => ?_)
  refine pr_ite (fun c108 => ?_) (fun c108 => ?_)
  refine g_X12_itemState_j116_pr _ _ _ _ _ 
  refine g_X12_itemState_j116_pr _ _ _ _ _ 
  refine pr_ck (fun ha75 => ?_)
  refine pr_bind (g_X12_byClass_pr) (fun r76 D76 => ?_)
  exact pr_some
  refine pr_ck (fun ha21 => ?_)
  refine pr_ck (fun ha30 => ?_)
  refine pr_ite (fun c32 => ?_) (fun c32 => ?_)
  refine g_X12_itemState_j40_pr _ _ _ _ 
  refine g_X12_itemState_j40_pr _ _ _ _ 
theorem g_X12_note_j60_pr  (x2 x3 : Int) (D : ga_D) : ga_pr D (g_X12_note_j60 x2 x3 D) := by
  unfold g_X12_note_j60
  refine pr_ite (fun c67 => ?_) (fun c67 => ?_)
  refine pr_upd (ga_Pn K_4782 rfl) (fun D78 => ?_)
  exact pr_some
  refine pr_upd (ga_Pn K_4782 rfl) (fun D78 => ?_)
  exact pr_some
theorem g_X12_note_pr {x1 x2 x3 x4 : Int} {D : ga_D} : ga_pr D (g_X12_note x1 x2 x3 x4 D) := by
  unfold g_X12_note
  refine pr_ck (fun ha6 => ?_)
  refine pr_upd (ga_Pn K_4825 rfl) (fun D6 => ?_)
  refine pr_ck (fun ha14 => ?_)
  refine pr_upd (ga_Pn K_4826 rfl) (fun D14 => ?_)
  refine pr_ite (fun c17 => ?_) (fun c17 => ?_)
  refine g_X12_note_j60_pr _ _ _ 
  refine pr_ite (fun c28 => ?_) (fun c28 => ?_)
  refine g_X12_note_j60_pr _ _ _ 
  refine pr_upd (ga_Pn K_4782 rfl) (fun D40 => ?_)
  refine pr_upd (ga_Pn K_4782 rfl) (fun D55 => ?_)
  refine pr_ck (fun ha59 => ?_)
  refine pr_upd (ga_Pn K_4827 rfl) (fun D59 => ?_)
  refine g_X12_note_j60_pr _ _ _ 
theorem g_X12_isOpen_pr {x1 : Int} {D : ga_D} : ga_pr D (g_X12_isOpen x1 D) := by
  unfold g_X12_isOpen
  refine pr_ck (fun ha5 => ?_)
  refine pr_ite (fun c7 => ?_) (fun c7 => ?_)
  exact pr_some
  refine pr_ck (fun ha22 => ?_)
  refine pr_ite (fun c26 => ?_) (fun c26 => ?_)
  exact pr_some
  exact pr_some
theorem g_X12_verdict_l5_pr  {k21 : Int → ga_D → ga_S} {k31 : ga_D → ga_S} (hk21 : ∀ (x1 : Int) (D : ga_D), ga_pr D (k21 x1 D)) (hk31 : ∀ (D : ga_D), ga_pr D (k31 D)) : ∀ (n : Nat) (x1 : Int) (D : ga_D), ga_pr D (g_X12_verdict_l5 n x1 D k21 k31) := by
  intro n
  induction n with
  | zero => intro x1 D; exact pr_none
  | succ n ih =>
    intro x1 D
    show ga_pr D (ga_bind (g_X12_ruleEnd D) (fun r7 D7 => if r7 ≤ x1 then (k31 D7) else (ga_bind (g_X12_isOpen x1 D7) (fun r15 D15 => if r15 = 0 then (ga_let (aw_w32 (x1 + 1)) (fun v25 => g_X12_verdict_l5 n v25 D15 k21 k31)) else (k21 x1 D15)))))
    refine pr_bind (g_X12_ruleEnd_pr) (fun r7 D7 => ?_)
    refine pr_ite (fun c10 => ?_) (fun c10 => ?_)
    exact hk31 _ 
    refine pr_bind (g_X12_isOpen_pr) (fun r15 D15 => ?_)
    refine pr_ite (fun c18 => ?_) (fun c18 => ?_)
    refine pr_let (fun v25 => ?_)
    exact ih _ _ 
    exact hk21 _ _ 
theorem g_X12_verdict_pr {D : ga_D} : ga_pr D (g_X12_verdict D) := by
  unfold g_X12_verdict
  refine pr_bind (g_X12_firstRule_pr) (fun r1 D1 => ?_)
  refine g_X12_verdict_l5_pr (fun x1 D21 => ?_) (fun D31 => ?_) _ _ _ 
  exact pr_some
  exact pr_some
theorem g_X12_run_l10_pr  {k57 : ga_D → ga_S} (hk57 : ∀ (D : ga_D), ga_pr D (k57 D)) : ∀ (n : Nat) (x3 : Int) (D : ga_D), ga_pr D (g_X12_run_l10 n x3 D k57) := by
  intro n
  induction n with
  | zero => intro x3 D; exact pr_none
  | succ n ih =>
    intro x3 D
    show ga_pr D (ga_bind (g_X12_ruleEnd D) (fun r12 D12 => if r12 ≤ x3 then (k57 D12) else (ga_bind (g_X12_hasTests x3 1 D12) (fun r26 D26 => if r26 = 0 then (ga_let (ga_set D26 4782 12 (aw_or (D12 4782 12) 0)) (fun D48 => ga_let (aw_w32 (x3 + 1)) (fun v51 => g_X12_run_l10 n v51 D48 k57))) else (ga_ck (0 ≤ x3 ∧ x3 < 60) (ga_let (ga_set D26 4782 12 (aw_or (D12 4782 12) (aw_shl 1 (D26 4812 x3)))) (fun D48 => ga_let (aw_w32 (x3 + 1)) (fun v51 => g_X12_run_l10 n v51 D48 k57))))))))
    refine pr_bind (g_X12_ruleEnd_pr) (fun r12 D12 => ?_)
    refine pr_ite (fun c15 => ?_) (fun c15 => ?_)
    exact hk57 _ 
    refine pr_bind (g_X12_hasTests_pr) (fun r26 D26 => ?_)
    refine pr_ite (fun c29 => ?_) (fun c29 => ?_)
    refine pr_upd (ga_Pn K_4782 rfl) (fun D48 => ?_)
    refine pr_let (fun v51 => ?_)
    exact ih _ _ 
    refine pr_ck (fun ha41 => ?_)
    refine pr_upd (ga_Pn K_4782 rfl) (fun D48 => ?_)
    refine pr_let (fun v51 => ?_)
    exact ih _ _ 
theorem g_X12_run_j211_pr  {k127 : Int → Int → Int → Int → Int → Int → ga_D → ga_S} (hk127 : ∀ (x3 x4 x5 x6 x7 x8 : Int) (D : ga_D), ga_pr D (k127 x3 x4 x5 x6 x7 x8 D)) (x3 x4 x5 x6 x7 x8 x9 : Int) (D : ga_D) : ga_pr D (g_X12_run_j211 x3 x4 x5 x6 x7 x8 x9 D k127) := by
  unfold g_X12_run_j211
  refine pr_ite (fun c214 => ?_) (fun c214 => ?_)
  refine pr_let (fun v225 => ?_)
  exact hk127 _ _ _ _ _ _ _ 
  refine pr_let (fun v225 => ?_)
  exact hk127 _ _ _ _ _ _ _ 
theorem g_X12_run_j182_pr  {k127 : Int → Int → Int → Int → Int → Int → ga_D → ga_S} (hk127 : ∀ (x3 x4 x5 x6 x7 x8 : Int) (D : ga_D), ga_pr D (k127 x3 x4 x5 x6 x7 x8 D)) (x3 x4 x5 x7 x8 x9 s0 : Int) (D : ga_D) : ga_pr D (g_X12_run_j182 x3 x4 x5 x7 x8 x9 s0 D k127) := by
  unfold g_X12_run_j182
  refine pr_ite (fun c187 => ?_) (fun c187 => ?_)
  refine pr_ite (fun c198 => ?_) (fun c198 => ?_)
  refine g_X12_run_j211_pr (fun x3 x4 x5 x6 x7 x8 D127 => ?_) _ _ _ _ _ _ _ _ 
  exact hk127 _ _ _ _ _ _ _ 
  refine pr_ite (fun c204 => ?_) (fun c204 => ?_)
  refine g_X12_run_j211_pr (fun x3 x4 x5 x6 x7 x8 D127 => ?_) _ _ _ _ _ _ _ _ 
  exact hk127 _ _ _ _ _ _ _ 
  refine pr_let (fun v225 => ?_)
  exact hk127 _ _ _ _ _ _ _ 
  refine pr_let (fun v225 => ?_)
  exact hk127 _ _ _ _ _ _ _ 
theorem g_X12_run_j180_pr  {k127 : Int → Int → Int → Int → Int → Int → ga_D → ga_S} (hk127 : ∀ (x3 x4 x5 x6 x7 x8 : Int) (D : ga_D), ga_pr D (k127 x3 x4 x5 x6 x7 x8 D)) (x3 x4 x5 x6 x7 x8 x9 : Int) (D : ga_D) : ga_pr D (g_X12_run_j180 x3 x4 x5 x6 x7 x8 x9 D k127) := by
  unfold g_X12_run_j180
  refine g_X12_run_j182_pr (fun x3 x4 x5 x6 x7 x8 D127 => ?_) _ _ _ _ _ _ _ _ 
  exact hk127 _ _ _ _ _ _ _ 
theorem g_X12_run_l127_pr  {k231 : Int → Int → Int → Int → Int → ga_D → ga_S} (hk231 : ∀ (x3 x4 x5 x6 x7 : Int) (D : ga_D), ga_pr D (k231 x3 x4 x5 x6 x7 D)) : ∀ (n : Nat) (x3 x4 x5 x6 x7 x8 : Int) (D : ga_D), ga_pr D (g_X12_run_l127 n x3 x4 x5 x6 x7 x8 D k231) := by
  intro n
  induction n with
  | zero => intro x3 x4 x5 x6 x7 x8 D; exact pr_none
  | succ n ih =>
    intro x3 x4 x5 x6 x7 x8 D
    show ga_pr D (ga_ck (0 ≤ aw_w32 (x3 + 1) ∧ aw_w32 (x3 + 1) < 61) (if D 4813 (aw_w32 (x3 + 1)) ≤ x8 then (k231 x3 x4 x5 x6 x7 D) else (if x7 ≠ 0 then (k231 x3 x4 x5 x6 x7 D) else (if x5 = 0 then (k231 x3 x4 x5 x6 x7 D) else (ga_bind (g_X12_itemState x8 D) (fun r156 D156 => if r156 ≠ 2 then (g_X12_run_j180 x3 x4 x5 x6 x7 x8 r156 D156 (fun x3 x4 x5 x6 x7 x8 D127 => g_X12_run_l127 n x3 x4 x5 x6 x7 x8 D127 k231)) else (if x6 ≠ (-1) then (g_X12_run_j180 x3 x4 x5 x6 x7 x8 r156 D156 (fun x3 x4 x5 x6 x7 x8 D127 => g_X12_run_l127 n x3 x4 x5 x6 x7 x8 D127 k231)) else (g_X12_run_j182 x3 x4 x5 x7 x8 r156 (D156 4782 17) D156 (fun x3 x4 x5 x6 x7 x8 D127 => g_X12_run_l127 n x3 x4 x5 x6 x7 x8 D127 k231)))))))))
    refine pr_ck (fun ha139 => ?_)
    refine pr_ite (fun c140 => ?_) (fun c140 => ?_)
    exact hk231 _ _ _ _ _ _ 
    refine pr_ite (fun c145 => ?_) (fun c145 => ?_)
    exact hk231 _ _ _ _ _ _ 
    refine pr_ite (fun c150 => ?_) (fun c150 => ?_)
    exact hk231 _ _ _ _ _ _ 
    refine pr_bind (g_X12_itemState_pr) (fun r156 D156 => ?_)
    refine pr_ite (fun c164 => ?_) (fun c164 => ?_)
    refine g_X12_run_j180_pr (fun x3 x4 x5 x6 x7 x8 D127 => ?_) _ _ _ _ _ _ _ _ 
    exact ih _ _ _ _ _ _ _ 
    refine pr_ite (fun c170 => ?_) (fun c170 => ?_)
    refine g_X12_run_j180_pr (fun x3 x4 x5 x6 x7 x8 D127 => ?_) _ _ _ _ _ _ _ _ 
    exact ih _ _ _ _ _ _ _ 
    refine g_X12_run_j182_pr (fun x3 x4 x5 x6 x7 x8 D127 => ?_) _ _ _ _ _ _ _ _ 
    exact ih _ _ _ _ _ _ _ 
theorem g_X12_run_j246_pr  {k62 : Int → ga_D → ga_S} (hk62 : ∀ (x3 : Int) (D : ga_D), ga_pr D (k62 x3 D)) (x3 x6 s0 s1 s2 : Int) (D : ga_D) : ga_pr D (g_X12_run_j246 x3 x6 s0 s1 s2 D k62) := by
  unfold g_X12_run_j246
  refine pr_bind (g_X12_note_pr) (fun r248 D248 => ?_)
  refine pr_let (fun v251 => ?_)
  exact hk62 _ _ 
theorem g_X12_run_j231_pr  {k62 : Int → ga_D → ga_S} (hk62 : ∀ (x3 : Int) (D : ga_D), ga_pr D (k62 x3 D)) (x3 x4 x5 x6 x7 : Int) (D : ga_D) : ga_pr D (g_X12_run_j231 x3 x4 x5 x6 x7 D k62) := by
  unfold g_X12_run_j231
  refine pr_ite (fun c237 => ?_) (fun c237 => ?_)
  refine g_X12_run_j246_pr (fun x3 D62 => ?_) _ _ _ _ _ _ 
  exact hk62 _ _ 
  refine g_X12_run_j246_pr (fun x3 D62 => ?_) _ _ _ _ _ _ 
  exact hk62 _ _ 
theorem g_X12_run_j113_pr  {k62 : Int → ga_D → ga_S} (hk62 : ∀ (x3 : Int) (D : ga_D), ga_pr D (k62 x3 D)) (x3 x4 x5 x6 : Int) (D : ga_D) : ga_pr D (g_X12_run_j113 x3 x4 x5 x6 D k62) := by
  unfold g_X12_run_j113
  refine pr_ck (fun ha124 => ?_)
  refine pr_let (fun v125 => ?_)
  refine g_X12_run_l127_pr (fun x3 x4 x5 x6 x7 D231 => ?_) _ _ _ _ _ _ _ _ 
  refine g_X12_run_j231_pr (fun x3 D62 => ?_) _ _ _ _ _ _ 
  exact hk62 _ _ 
theorem g_X12_run_l62_pr  {k257 : ga_D → ga_S} (hk257 : ∀ (D : ga_D), ga_pr D (k257 D)) : ∀ (n : Nat) (x3 : Int) (D : ga_D), ga_pr D (g_X12_run_l62 n x3 D k257) := by
  intro n
  induction n with
  | zero => intro x3 D; exact pr_none
  | succ n ih =>
    intro x3 D
    show ga_pr D (ga_bind (g_X12_ruleEnd D) (fun r64 D64 => if r64 ≤ x3 then (k257 D64) else (ga_ck (0 ≤ x3 ∧ x3 < 60) (ga_let (D64 4812 x3) (fun v79 => if aw_and (aw_shr (D64 4782 12) v79) 1 ≠ 1 then (g_X12_run_j113 x3 v79 1 (-1) D64 (fun x3 D62 => g_X12_run_l62 n x3 D62 k257)) else (ga_bind (g_X12_hasTests x3 0 D64) (fun r103 D103 => if r103 ≠ 0 then (g_X12_run_j113 x3 v79 1 (-1) D103 (fun x3 D62 => g_X12_run_l62 n x3 D62 k257)) else (ga_ck (0 ≤ x3 ∧ x3 < 61) (ga_let (D103 4813 x3) (fun v125 => g_X12_run_l127 aw_fu x3 v79 1 (-1) 1 v125 D103 (fun x3 x4 x5 x6 x7 D231 => g_X12_run_j231 x3 x4 x5 x6 x7 D231 (fun x3 D62 => g_X12_run_l62 n x3 D62 k257))))))))))))
    refine pr_bind (g_X12_ruleEnd_pr) (fun r64 D64 => ?_)
    refine pr_ite (fun c67 => ?_) (fun c67 => ?_)
    exact hk257 _ 
    refine pr_ck (fun ha78 => ?_)
    refine pr_let (fun v79 => ?_)
    refine pr_ite (fun c97 => ?_) (fun c97 => ?_)
    refine g_X12_run_j113_pr (fun x3 D62 => ?_) _ _ _ _ _ 
    exact ih _ _ 
    refine pr_bind (g_X12_hasTests_pr) (fun r103 D103 => ?_)
    refine pr_ite (fun c106 => ?_) (fun c106 => ?_)
    refine g_X12_run_j113_pr (fun x3 D62 => ?_) _ _ _ _ _ 
    exact ih _ _ 
    refine pr_ck (fun ha124 => ?_)
    refine pr_let (fun v125 => ?_)
    refine g_X12_run_l127_pr (fun x3 x4 x5 x6 x7 D231 => ?_) _ _ _ _ _ _ _ _ 
    refine g_X12_run_j231_pr (fun x3 D62 => ?_) _ _ _ _ _ _ 
    exact ih _ _ 
theorem g_X12_run_pr {x1 : Int} {D : ga_D} : ga_pr D (g_X12_run x1 D) := by
  unfold g_X12_run
  refine pr_bind (g_X12_begin_pr) (fun r2 D2 => ?_)
  refine pr_bind (g_X12_firstRule_pr) (fun r6 D6 => ?_)
  refine g_X12_run_l10_pr (fun D57 => ?_) _ _ _ 
  refine pr_bind (g_X12_firstRule_pr) (fun r58 D58 => ?_)
  refine g_X12_run_l62_pr (fun D257 => ?_) _ _ _ 
  refine pr_bind (g_X12_verdict_pr) (fun r258 D258 => ?_)
  exact pr_some
theorem g_X12_bit_l4_pr  {k25 : Int → Int → ga_D → ga_S} (hk25 : ∀ (x1 x2 : Int) (D : ga_D), ga_pr D (k25 x1 x2 D)) : ∀ (n : Nat) (x1 x2 x3 : Int) (D : ga_D), ga_pr D (g_X12_bit_l4 n x1 x2 x3 D k25) := by
  intro n
  induction n with
  | zero => intro x1 x2 x3 D; exact pr_none
  | succ n ih =>
    intro x1 x2 x3 D
    show ga_pr D (if x1 ≤ x3 then (k25 x1 x2 D) else (if x2 = 0 then (k25 x1 x2 D) else (ga_let (aw_and x2 (aw_w32 (x2 - 1))) (fun v18 => ga_let (aw_w32 (x3 + 1)) (fun v19 => g_X12_bit_l4 n x1 v18 v19 D k25)))))
    refine pr_ite (fun c6 => ?_) (fun c6 => ?_)
    exact hk25 _ _ _ 
    refine pr_ite (fun c10 => ?_) (fun c10 => ?_)
    exact hk25 _ _ _ 
    refine pr_let (fun v18 => ?_)
    refine pr_let (fun v19 => ?_)
    exact ih _ _ _ _ 
theorem g_X12_bit_j25_pr  (x1 x2 : Int) (D : ga_D) : ga_pr D (g_X12_bit_j25 x1 x2 D) := by
  unfold g_X12_bit_j25
  refine pr_ite (fun c26 => ?_) (fun c26 => ?_)
  exact pr_some
  refine pr_ite (fun c30 => ?_) (fun c30 => ?_)
  refine pr_bind (g_J25_numberOfTrailingZeros_pr) (fun r38 D38 => ?_)
  exact pr_some
  exact pr_some
theorem g_X12_bit_pr {x0 x1 : Int} {D : ga_D} : ga_pr D (g_X12_bit x0 x1 D) := by
  unfold g_X12_bit
  refine g_X12_bit_l4_pr (fun x1 x2 D25 => ?_) _ _ _ _ _ 
  refine g_X12_bit_j25_pr _ _ _ 
theorem g_X12_moving_pr {D : ga_D} : ga_pr D (g_X12_moving D) := by
  unfold g_X12_moving
  refine pr_bind (g_X12_bit_pr) (fun r5 D5 => ?_)
  exact pr_some
theorem g_X13_isBlank_pr {x0 : Int} {D : ga_D} : ga_pr D (g_X13_isBlank x0 D) := by
  unfold g_X13_isBlank
  refine pr_ite (fun c3 => ?_) (fun c3 => ?_)
  exact pr_some
  refine pr_ite (fun c9 => ?_) (fun c9 => ?_)
  exact pr_some
  exact pr_some
theorem g_X14_isAt_l32_pr  {k63 : Int → Int → ga_D → ga_S} (hk63 : ∀ (x4 x5 : Int) (D : ga_D), ga_pr D (k63 x4 x5 D)) : ∀ (n : Nat) (x0 x1 x2 x4 x5 : Int) (D : ga_D), ga_pr D (g_X14_isAt_l32 n x0 x1 x2 x4 x5 D k63) := by
  intro n
  induction n with
  | zero => intro x0 x1 x2 x4 x5 D; exact pr_none
  | succ n ih =>
    intro x0 x1 x2 x4 x5 D
    show ga_pr D (if x4 ≤ x5 then (k63 x4 x5 D) else (ga_ck ((ga_K x1).1 = 1002) (ga_ck (0 ≤ aw_w32 (x2 + x5) ∧ aw_w32 (x2 + x5) < (ga_K x1).2) (ga_ck (ga_K x0 = (900, 0)) (ga_bind (g_J20_charAt (D x0 1) x5 D) (fun r51 D51 => ga_ck (ga_K (D x0 1) = (69, 0)) (if D x1 (aw_w32 (x2 + x5)) ≠ r51 then (k63 x4 x5 D51) else (ga_let (aw_w32 (x5 + 1)) (fun v57 => g_X14_isAt_l32 n x0 x1 x2 x4 v57 D51 k63)))))))))
    refine pr_ite (fun c36 => ?_) (fun c36 => ?_)
    exact hk63 _ _ _ 
    refine pr_ck (fun ha44_0 => ?_)
    refine pr_ck (fun ha44 => ?_)
    refine pr_ck (fun hk46_1 => ?_)
    refine pr_bind (g_J20_charAt_pr) (fun r51 D51 => ?_)
    refine pr_ck (fun hk51_2 => ?_)
    refine pr_ite (fun c54 => ?_) (fun c54 => ?_)
    exact hk63 _ _ _ 
    refine pr_let (fun v57 => ?_)
    exact ih _ _ _ _ _ _ 
theorem g_X14_isAt_j63_pr  (x4 x5 : Int) (D : ga_D) : ga_pr D (g_X14_isAt_j63 x4 x5 D) := by
  unfold g_X14_isAt_j63
  refine pr_ite (fun c67 => ?_) (fun c67 => ?_)
  exact pr_some
  exact pr_some
theorem g_X14_isAt_pr {x0 x1 x2 x3 : Int} {D : ga_D} : ga_pr D (g_X14_isAt x0 x1 x2 x3 D) := by
  unfold g_X14_isAt
  refine pr_ck (fun hk1_0 => ?_)
  refine pr_bind (g_J20_length_pr) (fun r4 D4 => ?_)
  refine pr_ck (fun hk4_1 => ?_)
  refine pr_ite (fun c11 => ?_) (fun c11 => ?_)
  refine pr_let (fun v30 => ?_)
  refine g_X14_isAt_l32_pr (fun x4 x5 D63 => ?_) _ _ _ _ _ _ _ 
  refine g_X14_isAt_j63_pr _ _ _ 
  refine pr_ite (fun c19 => ?_) (fun c19 => ?_)
  refine pr_let (fun v30 => ?_)
  refine g_X14_isAt_l32_pr (fun x4 x5 D63 => ?_) _ _ _ _ _ _ _ 
  refine g_X14_isAt_j63_pr _ _ _ 
  refine g_X14_isAt_l32_pr (fun x4 x5 D63 => ?_) _ _ _ _ _ _ _ 
  refine g_X14_isAt_j63_pr _ _ _ 
theorem g_X13_kind_j60_pr  {k20 : Int → Int → Int → Int → Int → Int → ga_D → ga_S} (hk20 : ∀ (x0 x1 x2 x3 x4 x5 : Int) (D : ga_D), ga_pr D (k20 x0 x1 x2 x3 x4 x5 D)) (x0 x1 x2 x3 x5 s0 : Int) (D : ga_D) : ga_pr D (g_X13_kind_j60 x0 x1 x2 x3 x5 s0 D k20) := by
  unfold g_X13_kind_j60
  refine pr_ck (fun hk67_0 => ?_)
  refine pr_ck (fun ha72 => ?_)
  refine pr_let (fun v77 => ?_)
  refine pr_let (fun v78 => ?_)
  exact hk20 _ _ _ _ _ _ _ 
theorem g_X13_kind_j59_pr  {k20 : Int → Int → Int → Int → Int → Int → ga_D → ga_S} (hk20 : ∀ (x0 x1 x2 x3 x4 x5 : Int) (D : ga_D), ga_pr D (k20 x0 x1 x2 x3 x4 x5 D)) (x0 x1 x2 x3 x5 : Int) (D : ga_D) : ga_pr D (g_X13_kind_j59 x0 x1 x2 x3 x5 D k20) := by
  unfold g_X13_kind_j59
  refine g_X13_kind_j60_pr (fun x0 x1 x2 x3 x4 x5 D20 => ?_) _ _ _ _ _ _ _ 
  exact hk20 _ _ _ _ _ _ _ 
theorem g_X13_kind_l20_pr  {k84 : Int → Int → Int → Int → Int → ga_D → ga_S} (hk84 : ∀ (x0 x1 x2 x3 x4 : Int) (D : ga_D), ga_pr D (k84 x0 x1 x2 x3 x4 D)) : ∀ (n : Nat) (x0 x1 x2 x3 x4 x5 : Int) (D : ga_D), ga_pr D (g_X13_kind_l20 n x0 x1 x2 x3 x4 x5 D k84) := by
  intro n
  induction n with
  | zero => intro x0 x1 x2 x3 x4 x5 D; exact pr_none
  | succ n ih =>
    intro x0 x1 x2 x3 x4 x5 D
    show ga_pr D (if x2 ≤ x5 then (k84 x0 x1 x2 x3 x4 D) else (if x4 = 0 then (k84 x0 x1 x2 x3 x4 D) else (ga_ck (ga_K x0 = (12, 0)) (ga_ck (0 ≤ x5 ∧ x5 < 3000) (if D ((x0 + 1)) x5 < 48 then (g_X13_kind_j59 x0 x1 x2 x3 x5 D (fun x0 x1 x2 x3 x4 x5 D20 => g_X13_kind_l20 n x0 x1 x2 x3 x4 x5 D20 k84)) else (ga_ck (0 ≤ x5 ∧ x5 < 3000) (if 57 < D ((x0 + 1)) x5 then (g_X13_kind_j59 x0 x1 x2 x3 x5 D (fun x0 x1 x2 x3 x4 x5 D20 => g_X13_kind_l20 n x0 x1 x2 x3 x4 x5 D20 k84)) else (g_X13_kind_j60 x0 x1 x2 x3 x5 1 D (fun x0 x1 x2 x3 x4 x5 D20 => g_X13_kind_l20 n x0 x1 x2 x3 x4 x5 D20 k84)))))))))
    refine pr_ite (fun c23 => ?_) (fun c23 => ?_)
    exact hk84 _ _ _ _ _ _ 
    refine pr_ite (fun c28 => ?_) (fun c28 => ?_)
    exact hk84 _ _ _ _ _ _ 
    refine pr_ck (fun hk32_0 => ?_)
    refine pr_ck (fun ha37 => ?_)
    refine pr_ite (fun c40 => ?_) (fun c40 => ?_)
    refine g_X13_kind_j59_pr (fun x0 x1 x2 x3 x4 x5 D20 => ?_) _ _ _ _ _ _ 
    exact ih _ _ _ _ _ _ _ 
    refine pr_ck (fun ha49 => ?_)
    refine pr_ite (fun c52 => ?_) (fun c52 => ?_)
    refine g_X13_kind_j59_pr (fun x0 x1 x2 x3 x4 x5 D20 => ?_) _ _ _ _ _ _ 
    exact ih _ _ _ _ _ _ _ 
    refine g_X13_kind_j60_pr (fun x0 x1 x2 x3 x4 x5 D20 => ?_) _ _ _ _ _ _ _ 
    exact ih _ _ _ _ _ _ _ 
theorem g_X13_kind_l111_pr  {k168 : Int → ga_D → ga_S} (hk168 : ∀ (x5 : Int) (D : ga_D), ga_pr D (k168 x5 D)) : ∀ (n : Nat) (x0 x1 x2 x5 x6 : Int) (D : ga_D), ga_pr D (g_X13_kind_l111 n x0 x1 x2 x5 x6 D k168) := by
  intro n
  induction n with
  | zero => intro x0 x1 x2 x5 x6 D; exact pr_none
  | succ n ih =>
    intro x0 x1 x2 x5 x6 D
    show ga_pr D (ga_ck (ga_K x0 = (12, 0)) (if 19 ≤ x6 then (k168 x5 D) else (ga_ck (x5 = 0 ∨ ga_K x5 = (900, 0)) (if x5 ≠ 118 then (k168 x5 D) else (ga_ck (0 ≤ x6 ∧ x6 < 19) (ga_bind (g_X14_isAt (D ((x0 + 6)) x6) ((x0 + 1)) x1 x2 D) (fun r142 D142 => ga_ck (ga_K (D ((x0 + 6)) x6) = (900, 0)) (if r142 = 0 then (ga_let (aw_w32 (x6 + 1)) (fun v162 => g_X13_kind_l111 n x0 x1 x2 x5 v162 D142 k168)) else (ga_ck (0 ≤ x6 ∧ x6 < 19) (ga_let (D142 ((x0 + 6)) x6) (fun v160 => ga_let (aw_w32 (x6 + 1)) (fun v162 => g_X13_kind_l111 n x0 x1 x2 v160 v162 D142 k168))))))))))))
    refine pr_ck (fun hk114_0 => ?_)
    refine pr_ite (fun c118 => ?_) (fun c118 => ?_)
    exact hk168 _ _ 
    refine pr_ck (fun hn126 => ?_)
    refine pr_ite (fun c126 => ?_) (fun c126 => ?_)
    exact hk168 _ _ 
    refine pr_ck (fun ha135 => ?_)
    refine pr_bind (g_X14_isAt_pr) (fun r142 D142 => ?_)
    refine pr_ck (fun hk142_0 => ?_)
    refine pr_ite (fun c145 => ?_) (fun c145 => ?_)
    refine pr_let (fun v162 => ?_)
    exact ih _ _ _ _ _ _ 
    refine pr_ck (fun ha154 => ?_)
    refine pr_let (fun v160 => ?_)
    refine pr_let (fun v162 => ?_)
    exact ih _ _ _ _ _ _ 
theorem g_X13_kind_j84_pr  (x0 x1 x2 x3 x4 : Int) (D : ga_D) : ga_pr D (g_X13_kind_j84 x0 x1 x2 x3 x4 D) := by
  unfold g_X13_kind_j84
  refine pr_ite (fun c86 => ?_) (fun c86 => ?_)
  refine g_X13_kind_l111_pr (fun x5 D168 => ?_) _ _ _ _ _ _ _ 
  exact pr_some
  refine pr_ck (fun hk90_0 => ?_)
  refine pr_ck (fun ha98 => ?_)
  refine pr_upd (ga_Pn (KO_12_5 hk90_0) rfl) (fun D98 => ?_)
  exact pr_some
theorem g_X13_kind_pr {x0 x1 x2 : Int} {D : ga_D} : ga_pr D (g_X13_kind x0 x1 x2 D) := by
  unfold g_X13_kind
  refine pr_ite (fun c7 => ?_) (fun c7 => ?_)
  refine g_X13_kind_l20_pr (fun x0 x1 x2 x3 x4 D84 => ?_) _ _ _ _ _ _ _ _ 
  refine g_X13_kind_j84_pr _ _ _ _ _ _ 
  refine g_X13_kind_l20_pr (fun x0 x1 x2 x3 x4 D84 => ?_) _ _ _ _ _ _ _ _ 
  refine g_X13_kind_j84_pr _ _ _ _ _ _ 
theorem g_X13_split_l35_pr  {k61 : Int → Int → Int → ga_D → ga_S} (hk61 : ∀ (x0 x1 x2 : Int) (D : ga_D), ga_pr D (k61 x0 x1 x2 D)) : ∀ (n : Nat) (x0 x1 x2 : Int) (D : ga_D), ga_pr D (g_X13_split_l35 n x0 x1 x2 D k61) := by
  intro n
  induction n with
  | zero => intro x0 x1 x2 D; exact pr_none
  | succ n ih =>
    intro x0 x1 x2 D
    show ga_pr D (ga_ck (ga_K x0 = (12, 0)) (if D x0 1 ≤ x1 then (k61 x0 x1 x2 D) else (ga_ck (0 ≤ x1 ∧ x1 < 3000) (ga_bind (g_X13_isBlank (D ((x0 + 1)) x1) D) (fun r49 D49 => if r49 ≠ 0 then (k61 x0 x1 x2 D49) else (ga_let (aw_w32 (x1 + 1)) (fun v55 => g_X13_split_l35 n x0 v55 x2 D49 k61)))))))
    refine pr_ck (fun hk37_0 => ?_)
    refine pr_ite (fun c40 => ?_) (fun c40 => ?_)
    exact hk61 _ _ _ _ 
    refine pr_ck (fun ha48 => ?_)
    refine pr_bind (g_X13_isBlank_pr) (fun r49 D49 => ?_)
    refine pr_ite (fun c52 => ?_) (fun c52 => ?_)
    exact hk61 _ _ _ _ 
    refine pr_let (fun v55 => ?_)
    exact ih _ _ _ _ 
theorem g_X13_split_j61_pr  {k7 : Int → Int → ga_D → ga_S} (hk7 : ∀ (x0 x1 : Int) (D : ga_D), ga_pr D (k7 x0 x1 D)) (x0 x1 x2 : Int) (D : ga_D) : ga_pr D (g_X13_split_j61 x0 x1 x2 D k7) := by
  unfold g_X13_split_j61
  refine pr_ck (fun hk62_0 => ?_)
  refine pr_ck (fun ha70 => ?_)
  refine pr_upd (ga_Pn (KO_12_2 hk62_0) rfl) (fun D70 => ?_)
  refine pr_ck (fun ha80 => ?_)
  refine pr_upd (ga_Pn (KO_12_3 hk62_0) rfl) (fun D80 => ?_)
  refine pr_bind (g_X13_kind_pr) (fun r92 D92 => ?_)
  refine pr_ck (fun ha95 => ?_)
  refine pr_upd (ga_Pn (KO_12_4 hk62_0) rfl) (fun D95 => ?_)
  refine pr_upd (ga_Pn hk62_0 rfl) (fun D103 => ?_)
  exact hk7 _ _ _ 
theorem g_X13_split_l7_pr  {k109 : ga_D → ga_S} (hk109 : ∀ (D : ga_D), ga_pr D (k109 D)) : ∀ (n : Nat) (x0 x1 : Int) (D : ga_D), ga_pr D (g_X13_split_l7 n x0 x1 D k109) := by
  intro n
  induction n with
  | zero => intro x0 x1 D; exact pr_none
  | succ n ih =>
    intro x0 x1 D
    show ga_pr D (ga_ck (ga_K x0 = (12, 0)) (if D x0 1 ≤ x1 then (k109 D) else (ga_ck (0 ≤ x1 ∧ x1 < 3000) (ga_bind (g_X13_isBlank (D ((x0 + 1)) x1) D) (fun r21 D21 => if r21 = 0 then (g_X13_split_l35 aw_fu x0 x1 x1 D21 (fun x0 x1 x2 D61 => g_X13_split_j61 x0 x1 x2 D61 (fun x0 x1 D7 => g_X13_split_l7 n x0 x1 D7 k109))) else (ga_let (aw_w32 (x1 + 1)) (fun v27 => g_X13_split_l7 n x0 v27 D21 k109)))))))
    refine pr_ck (fun hk9_0 => ?_)
    refine pr_ite (fun c12 => ?_) (fun c12 => ?_)
    exact hk109 _ 
    refine pr_ck (fun ha20 => ?_)
    refine pr_bind (g_X13_isBlank_pr) (fun r21 D21 => ?_)
    refine pr_ite (fun c24 => ?_) (fun c24 => ?_)
    refine g_X13_split_l35_pr (fun x0 x1 x2 D61 => ?_) _ _ _ _ _ 
    refine g_X13_split_j61_pr (fun x0 x1 D7 => ?_) _ _ _ _ 
    exact ih _ _ _ 
    refine pr_let (fun v27 => ?_)
    exact ih _ _ _ 
theorem g_X13_split_pr {x0 : Int} {D : ga_D} : ga_pr D (g_X13_split x0 D) := by
  unfold g_X13_split
  refine pr_ck (fun hk2_0 => ?_)
  refine pr_upd (ga_Pn hk2_0 rfl) (fun D2 => ?_)
  refine g_X13_split_l7_pr (fun D109 => ?_) _ _ _ _ 
  exact pr_some
theorem g_X15_clear_pr {x0 : Int} {D : ga_D} : ga_pr D (g_X15_clear x0 D) := by
  unfold g_X15_clear
  refine pr_ck (fun hk2_0 => ?_)
  refine pr_upd (ga_Pn hk2_0 rfl) (fun D2 => ?_)
  refine pr_upd (ga_Pn hk2_0 rfl) (fun D7 => ?_)
  refine pr_upd (ga_Pn hk2_0 rfl) (fun D12 => ?_)
  refine pr_upd (ga_Pn hk2_0 rfl) (fun D17 => ?_)
  refine pr_ck (fun ha26 => ?_)
  refine pr_upd (ga_Pn (KO_13_2 hk2_0) rfl) (fun D26 => ?_)
  refine pr_ck (fun ha33 => ?_)
  refine pr_upd (ga_Pn (KO_13_4 hk2_0) rfl) (fun D33 => ?_)
  exact pr_some
theorem g_X13_is_pr {x0 x1 x2 : Int} {D : ga_D} : ga_pr D (g_X13_is x0 x1 x2 D) := by
  unfold g_X13_is
  refine pr_ck (fun hk2_0 => ?_)
  refine pr_ite (fun c5 => ?_) (fun c5 => ?_)
  exact pr_some
  refine pr_ck (fun ha13 => ?_)
  refine pr_ck (fun hn15 => ?_)
  refine pr_ite (fun c15 => ?_) (fun c15 => ?_)
  exact pr_some
  exact pr_some
theorem g_X16_take_j28_pr  (s0 : Int) (D : ga_D) : ga_pr D (g_X16_take_j28 s0 D) := by
  unfold g_X16_take_j28
  refine pr_ck (fun hp28 => ?_)
  refine pr_upd (ga_Pn K_4821 rfl) (fun D28 => ?_)
  refine pr_ite (fun c40 => ?_) (fun c40 => ?_)
  refine pr_upd (ga_Pn K_4821 rfl) (fun D49 => ?_)
  exact pr_some
  refine pr_upd (ga_Pn K_4821 rfl) (fun D49 => ?_)
  exact pr_some
theorem g_X16_take_j27_pr  (D : ga_D) : ga_pr D (g_X16_take_j27 D) := by
  unfold g_X16_take_j27
  refine g_X16_take_j28_pr _ _ 
theorem g_X16_take_pr {x1 : Int} {D : ga_D} : ga_pr D (g_X16_take x1 D) := by
  unfold g_X16_take
  refine pr_ite (fun c5 => ?_) (fun c5 => ?_)
  refine g_X16_take_j27_pr _ 
  refine pr_bind (g_X13_is_pr) (fun r17 D17 => ?_)
  refine pr_ite (fun c20 => ?_) (fun c20 => ?_)
  refine g_X16_take_j27_pr _ 
  refine g_X16_take_j28_pr _ _ 
theorem g_X13_isNumber_pr {x0 x1 x2 : Int} {D : ga_D} : ga_pr D (g_X13_isNumber x0 x1 x2 D) := by
  unfold g_X13_isNumber
  refine pr_bind (g_X13_is_pr) (fun r5 D5 => ?_)
  refine pr_ck (fun hk5_0 => ?_)
  refine pr_ite (fun c8 => ?_) (fun c8 => ?_)
  exact pr_some
  refine pr_ck (fun ha16 => ?_)
  refine pr_ite (fun c18 => ?_) (fun c18 => ?_)
  exact pr_some
  exact pr_some
theorem g_X16_number_j28_pr  (s0 : Int) (D : ga_D) : ga_pr D (g_X16_number_j28 s0 D) := by
  unfold g_X16_number_j28
  refine pr_ck (fun hp28 => ?_)
  refine pr_upd (ga_Pn K_4821 rfl) (fun D28 => ?_)
  refine pr_ite (fun c35 => ?_) (fun c35 => ?_)
  exact pr_some
  refine pr_upd (ga_Pn K_4821 rfl) (fun D53 => ?_)
  refine pr_ck (fun ha56 => ?_)
  exact pr_some
theorem g_X16_number_j27_pr  (D : ga_D) : ga_pr D (g_X16_number_j27 D) := by
  unfold g_X16_number_j27
  refine g_X16_number_j28_pr _ _ 
theorem g_X16_number_pr {x1 : Int} {D : ga_D} : ga_pr D (g_X16_number x1 D) := by
  unfold g_X16_number
  refine pr_ite (fun c5 => ?_) (fun c5 => ?_)
  refine g_X16_number_j27_pr _ 
  refine pr_bind (g_X13_isNumber_pr) (fun r17 D17 => ?_)
  refine pr_ite (fun c20 => ?_) (fun c20 => ?_)
  refine g_X16_number_j27_pr _ 
  refine g_X16_number_j28_pr _ _ 
theorem g_X16_term_j195_pr  (x1 : Int) (D : ga_D) : ga_pr D (g_X16_term_j195 x1 D) := by
  unfold g_X16_term_j195
  refine pr_ite (fun c199 => ?_) (fun c199 => ?_)
  exact pr_some
  refine pr_bind (g_X13_is_pr) (fun r213 D213 => ?_)
  refine pr_ite (fun c216 => ?_) (fun c216 => ?_)
  exact pr_some
  refine pr_bind (g_X16_take_pr) (fun r223 D223 => ?_)
  refine pr_bind (g_X16_number_pr) (fun r240 D240 => ?_)
  refine pr_ck (fun ha243 => ?_)
  refine pr_upd (ga_Pn K_4807 rfl) (fun D243 => ?_)
  exact pr_some
theorem g_X16_term_j78_pr  (x1 s0 : Int) (D : ga_D) : ga_pr D (g_X16_term_j78 x1 s0 D) := by
  unfold g_X16_term_j78
  refine pr_bind (g_X16_take_pr) (fun r78 D78 => ?_)
  refine pr_bind (g_X16_number_pr) (fun r95 D95 => ?_)
  refine pr_ck (fun ha98 => ?_)
  refine pr_upd (ga_Pn K_4807 rfl) (fun D98 => ?_)
  refine pr_bind (g_X16_take_pr) (fun r103 D103 => ?_)
  refine pr_bind (g_X16_number_pr) (fun r119 D119 => ?_)
  refine pr_ck (fun ha122 => ?_)
  refine pr_upd (ga_Pn K_4807 rfl) (fun D122 => ?_)
  refine pr_ck (fun ha134 => ?_)
  refine pr_upd (ga_Pn K_4807 rfl) (fun D134 => ?_)
  refine pr_ck (fun ha146 => ?_)
  refine pr_upd (ga_Pn K_4807 rfl) (fun D146 => ?_)
  refine pr_ite (fun c151 => ?_) (fun c151 => ?_)
  refine g_X16_term_j195_pr _ _ 
  refine pr_bind (g_X13_is_pr) (fun r165 D165 => ?_)
  refine pr_ite (fun c168 => ?_) (fun c168 => ?_)
  refine g_X16_term_j195_pr _ _ 
  refine pr_bind (g_X16_take_pr) (fun r175 D175 => ?_)
  refine pr_bind (g_X16_number_pr) (fun r191 D191 => ?_)
  refine pr_ck (fun ha194 => ?_)
  refine pr_upd (ga_Pn K_4807 rfl) (fun D194 => ?_)
  refine g_X16_term_j195_pr _ _ 
theorem g_X16_term_j55_pr  (x1 s0 s1 s2 : Int) (D : ga_D) : ga_pr D (g_X16_term_j55 x1 s0 s1 s2 D) := by
  unfold g_X16_term_j55
  refine pr_ck (fun ha55_0 => ?_)
  refine pr_ck (fun hg55_1 => ?_)
  refine pr_ck (fun ha55 => ?_)
  refine pr_upd (ga_Pn (ga_kp ha55_0) rfl) (fun D55 => ?_)
  refine pr_ck (fun ha65 => ?_)
  refine pr_ite (fun c66 => ?_) (fun c66 => ?_)
  refine g_X16_term_j78_pr _ _ _ 
  refine g_X16_term_j78_pr _ _ _ 
theorem g_X16_term_pr {D : ga_D} : ga_pr D (g_X16_term D) := by
  unfold g_X16_term
  refine pr_ite (fun c4 => ?_) (fun c4 => ?_)
  refine pr_upd (ga_Pn K_4797 rfl) (fun D20 => ?_)
  refine pr_let (fun v24 => ?_)
  refine pr_bind (g_X13_is_pr) (fun r44 D44 => ?_)
  refine pr_ite (fun c47 => ?_) (fun c47 => ?_)
  refine g_X16_term_j55_pr _ _ _ _ _ 
  refine g_X16_term_j55_pr _ _ _ _ _ 
  exact pr_some
theorem g_X16_item_j277_pr  {k236 : Int → ga_D → ga_S} (hk236 : ∀ (x1 : Int) (D : ga_D), ga_pr D (k236 x1 D)) (x1 : Int) (D : ga_D) : ga_pr D (g_X16_item_j277 x1 D k236) := by
  unfold g_X16_item_j277
  refine pr_bind (g_X16_term_pr) (fun r278 D278 => ?_)
  exact hk236 _ _ 
theorem g_X16_item_l236_pr  {k284 : Int → ga_D → ga_S} (hk284 : ∀ (x1 : Int) (D : ga_D), ga_pr D (k284 x1 D)) : ∀ (n : Nat) (x1 : Int) (D : ga_D), ga_pr D (g_X16_item_l236 n x1 D k284) := by
  intro n
  induction n with
  | zero => intro x1 D; exact pr_none
  | succ n ih =>
    intro x1 D
    show ga_pr D (if D 4821 3 = 0 then (k284 x1 D) else (ga_bind (g_X13_is 4783 (D 4821 2) 112 D) (fun r254 D254 => if r254 ≠ 0 then (g_X16_item_j277 x1 D254 (fun x1 D236 => g_X16_item_l236 n x1 D236 k284)) else (ga_bind (g_X13_is 4783 (D254 4821 2) 113 D254) (fun r271 D271 => if r271 = 0 then (k284 x1 D271) else (g_X16_item_j277 x1 D271 (fun x1 D236 => g_X16_item_l236 n x1 D236 k284)))))))
    refine pr_ite (fun c240 => ?_) (fun c240 => ?_)
    exact hk284 _ _ 
    refine pr_bind (g_X13_is_pr) (fun r254 D254 => ?_)
    refine pr_ite (fun c257 => ?_) (fun c257 => ?_)
    refine g_X16_item_j277_pr (fun x1 D236 => ?_) _ _ 
    exact ih _ _ 
    refine pr_bind (g_X13_is_pr) (fun r271 D271 => ?_)
    refine pr_ite (fun c274 => ?_) (fun c274 => ?_)
    exact hk284 _ _ 
    refine g_X16_item_j277_pr (fun x1 D236 => ?_) _ _ 
    exact ih _ _ 
theorem g_X16_item_j356_pr  (x1 : Int) (D : ga_D) : ga_pr D (g_X16_item_j356 x1 D) := by
  unfold g_X16_item_j356
  refine pr_ck (fun ha371 => ?_)
  refine pr_upd (ga_Pn K_4808 rfl) (fun D371 => ?_)
  exact pr_some
theorem g_X16_item_j338_pr  (x1 s0 : Int) (D : ga_D) : ga_pr D (g_X16_item_j338 x1 s0 D) := by
  unfold g_X16_item_j338
  refine pr_bind (g_X16_take_pr) (fun r338 D338 => ?_)
  refine pr_bind (g_X16_number_pr) (fun r352 D352 => ?_)
  refine pr_ck (fun ha355 => ?_)
  refine pr_upd (ga_Pn K_4806 rfl) (fun D355 => ?_)
  refine g_X16_item_j356_pr _ _ 
theorem g_X16_item_j314_pr  (x1 s0 s1 s2 : Int) (D : ga_D) : ga_pr D (g_X16_item_j314 x1 s0 s1 s2 D) := by
  unfold g_X16_item_j314
  refine pr_ck (fun ha314_0 => ?_)
  refine pr_ck (fun hg314_1 => ?_)
  refine pr_ck (fun ha314 => ?_)
  refine pr_upd (ga_Pn (ga_kp ha314_0) rfl) (fun D314 => ?_)
  refine pr_ck (fun ha324 => ?_)
  refine pr_ite (fun c326 => ?_) (fun c326 => ?_)
  refine g_X16_item_j338_pr _ _ _ 
  refine g_X16_item_j338_pr _ _ _ 
theorem g_X16_item_j284_pr  (x1 : Int) (D : ga_D) : ga_pr D (g_X16_item_j284 x1 D) := by
  unfold g_X16_item_j284
  refine pr_bind (g_X13_is_pr) (fun r303 D303 => ?_)
  refine pr_ite (fun c306 => ?_) (fun c306 => ?_)
  refine g_X16_item_j314_pr _ _ _ _ _ 
  refine g_X16_item_j314_pr _ _ _ _ _ 
theorem g_X16_item_j126_pr  (x1 s0 : Int) (D : ga_D) : ga_pr D (g_X16_item_j126 x1 s0 D) := by
  unfold g_X16_item_j126
  refine pr_bind (g_X16_take_pr) (fun r126 D126 => ?_)
  refine pr_bind (g_X16_number_pr) (fun r140 D140 => ?_)
  refine pr_ck (fun ha143 => ?_)
  refine pr_upd (ga_Pn K_4806 rfl) (fun D143 => ?_)
  refine g_X16_item_j356_pr _ _ 
theorem g_X16_item_j102_pr  (x1 s0 s1 s2 : Int) (D : ga_D) : ga_pr D (g_X16_item_j102 x1 s0 s1 s2 D) := by
  unfold g_X16_item_j102
  refine pr_ck (fun ha102_0 => ?_)
  refine pr_ck (fun hg102_1 => ?_)
  refine pr_ck (fun ha102 => ?_)
  refine pr_upd (ga_Pn (ga_kp ha102_0) rfl) (fun D102 => ?_)
  refine pr_ck (fun ha112 => ?_)
  refine pr_ite (fun c114 => ?_) (fun c114 => ?_)
  refine g_X16_item_j126_pr _ _ _ 
  refine g_X16_item_j126_pr _ _ _ 
theorem g_X16_item_pr {D : ga_D} : ga_pr D (g_X16_item D) := by
  unfold g_X16_item
  refine pr_ite (fun c4 => ?_) (fun c4 => ?_)
  refine pr_upd (ga_Pn K_4797 rfl) (fun D19 => ?_)
  refine pr_let (fun v22 => ?_)
  refine pr_bind (g_X13_is_pr) (fun r34 D34 => ?_)
  refine pr_ite (fun c37 => ?_) (fun c37 => ?_)
  refine pr_bind (g_X13_is_pr) (fun r158 D158 => ?_)
  refine pr_ite (fun c161 => ?_) (fun c161 => ?_)
  refine pr_ck (fun ha208 => ?_)
  refine pr_upd (ga_Pn K_4803 rfl) (fun D208 => ?_)
  refine pr_bind (g_X16_take_pr) (fun r213 D213 => ?_)
  refine pr_ck (fun ha231 => ?_)
  refine pr_upd (ga_Pn K_4804 rfl) (fun D231 => ?_)
  refine pr_bind (g_X16_term_pr) (fun r233 D233 => ?_)
  refine g_X16_item_l236_pr (fun x1 D284 => ?_) _ _ _ 
  refine g_X16_item_j284_pr _ _ 
  refine pr_ck (fun ha173 => ?_)
  refine pr_upd (ga_Pn K_4803 rfl) (fun D173 => ?_)
  refine pr_bind (g_X16_take_pr) (fun r178 D178 => ?_)
  refine pr_bind (g_X16_number_pr) (fun r192 D192 => ?_)
  refine pr_ck (fun ha195 => ?_)
  refine pr_upd (ga_Pn K_4804 rfl) (fun D195 => ?_)
  refine g_X16_item_j356_pr _ _ 
  refine pr_ck (fun ha49 => ?_)
  refine pr_upd (ga_Pn K_4803 rfl) (fun D49 => ?_)
  refine pr_bind (g_X16_take_pr) (fun r54 D54 => ?_)
  refine pr_bind (g_X16_number_pr) (fun r68 D68 => ?_)
  refine pr_ck (fun ha71 => ?_)
  refine pr_upd (ga_Pn K_4804 rfl) (fun D71 => ?_)
  refine pr_bind (g_X13_is_pr) (fun r91 D91 => ?_)
  refine pr_ite (fun c94 => ?_) (fun c94 => ?_)
  refine g_X16_item_j102_pr _ _ _ _ _ 
  refine g_X16_item_j102_pr _ _ _ _ _ 
  exact pr_some
theorem g_X16_rule_l51_pr  {k89 : Int → Int → ga_D → ga_S} (hk89 : ∀ (x1 x2 : Int) (D : ga_D), ga_pr D (k89 x1 x2 D)) : ∀ (n : Nat) (x1 x2 : Int) (D : ga_D), ga_pr D (g_X16_rule_l51 n x1 x2 D k89) := by
  intro n
  induction n with
  | zero => intro x1 x2 D; exact pr_none
  | succ n ih =>
    intro x1 x2 D
    show ga_pr D (if D 4821 3 = 0 then (k89 x1 x2 D) else (ga_bind (g_X13_is 4783 (D 4821 2) 104 D) (fun r69 D69 => if r69 = 0 then (k89 x1 x2 D69) else (ga_bind (g_X16_take 104 D69) (fun r79 D79 => ga_bind (g_X16_item D79) (fun r83 D83 => g_X16_rule_l51 n x1 x2 D83 k89))))))
    refine pr_ite (fun c55 => ?_) (fun c55 => ?_)
    exact hk89 _ _ _ 
    refine pr_bind (g_X13_is_pr) (fun r69 D69 => ?_)
    refine pr_ite (fun c72 => ?_) (fun c72 => ?_)
    exact hk89 _ _ _ 
    refine pr_bind (g_X16_take_pr) (fun r79 D79 => ?_)
    refine pr_bind (g_X16_item_pr) (fun r83 D83 => ?_)
    exact ih _ _ _ 
theorem g_X16_rule_j89_pr  (x1 x2 : Int) (D : ga_D) : ga_pr D (g_X16_rule_j89 x1 x2 D) := by
  unfold g_X16_rule_j89
  refine pr_bind (g_X16_take_pr) (fun r93 D93 => ?_)
  refine pr_ite (fun c100 => ?_) (fun c100 => ?_)
  exact pr_some
  refine pr_ck (fun ha118 => ?_)
  refine pr_upd (ga_Pn K_4800 rfl) (fun D118 => ?_)
  refine pr_ck (fun ha134 => ?_)
  refine pr_upd (ga_Pn K_4802 rfl) (fun D134 => ?_)
  refine pr_upd (ga_Pn K_4797 rfl) (fun D145 => ?_)
  refine pr_ck (fun ha169 => ?_)
  refine pr_upd (ga_Pn K_4801 rfl) (fun D169 => ?_)
  refine pr_ck (fun ha191 => ?_)
  refine pr_upd (ga_Pn K_4799 rfl) (fun D191 => ?_)
  exact pr_some
theorem g_X16_rule_j18_pr  (s0 : Int) (D : ga_D) : ga_pr D (g_X16_rule_j18 s0 D) := by
  unfold g_X16_rule_j18
  refine pr_ck (fun hp18 => ?_)
  refine pr_upd (ga_Pn K_4821 rfl) (fun D18 => ?_)
  refine pr_let (fun v25 => ?_)
  refine pr_bind (g_X16_take_pr) (fun r30 D30 => ?_)
  refine pr_bind (g_X16_number_pr) (fun r36 D36 => ?_)
  refine pr_bind (g_X16_take_pr) (fun r44 D44 => ?_)
  refine pr_bind (g_X16_item_pr) (fun r48 D48 => ?_)
  refine g_X16_rule_l51_pr (fun x1 x2 D89 => ?_) _ _ _ _ 
  refine g_X16_rule_j89_pr _ _ _ 
theorem g_X16_rule_pr {D : ga_D} : ga_pr D (g_X16_rule D) := by
  unfold g_X16_rule
  refine pr_ite (fun c10 => ?_) (fun c10 => ?_)
  refine g_X16_rule_j18_pr _ _ 
  refine g_X16_rule_j18_pr _ _ 
theorem g_X16_edition_l148_pr  {k179 : ga_D → ga_S} (hk179 : ∀ (D : ga_D), ga_pr D (k179 D)) : ∀ (n : Nat) (D : ga_D), ga_pr D (g_X16_edition_l148 n D k179) := by
  intro n
  induction n with
  | zero => intro D; exact pr_none
  | succ n ih =>
    intro D
    show ga_pr D (if D 4821 3 = 0 then (k179 D) else (ga_bind (g_X13_is 4783 (D 4821 2) 101 D) (fun r166 D166 => if r166 = 0 then (k179 D166) else (ga_bind (g_X16_rule D166) (fun r173 D173 => g_X16_edition_l148 n D173 k179)))))
    refine pr_ite (fun c152 => ?_) (fun c152 => ?_)
    exact hk179 _ 
    refine pr_bind (g_X13_is_pr) (fun r166 D166 => ?_)
    refine pr_ite (fun c169 => ?_) (fun c169 => ?_)
    exact hk179 _ 
    refine pr_bind (g_X16_rule_pr) (fun r173 D173 => ?_)
    exact ih _ 
theorem g_X16_edition_j85_pr  (s0 : Int) (D : ga_D) : ga_pr D (g_X16_edition_j85 s0 D) := by
  unfold g_X16_edition_j85
  refine pr_ck (fun hp85 => ?_)
  refine pr_upd (ga_Pn K_4821 rfl) (fun D85 => ?_)
  refine pr_bind (g_X16_number_pr) (fun r91 D91 => ?_)
  refine pr_ite (fun c99 => ?_) (fun c99 => ?_)
  refine pr_upd (ga_Pn K_4797 rfl) (fun D121 => ?_)
  refine pr_ck (fun ha125 => ?_)
  refine pr_upd (ga_Pn K_4798 rfl) (fun D125 => ?_)
  refine pr_ck (fun ha147 => ?_)
  refine pr_upd (ga_Pn K_4799 rfl) (fun D147 => ?_)
  refine g_X16_edition_l148_pr (fun D179 => ?_) _ _ 
  exact pr_some
  exact pr_some
theorem g_X16_edition_j84_pr  (D : ga_D) : ga_pr D (g_X16_edition_j84 D) := by
  unfold g_X16_edition_j84
  refine g_X16_edition_j85_pr _ _ 
theorem g_X16_edition_j80_pr  (D : ga_D) : ga_pr D (g_X16_edition_j80 D) := by
  unfold g_X16_edition_j80
  refine g_X16_edition_j85_pr _ _ 
theorem g_X16_edition_j38_pr  (s0 : Int) (D : ga_D) : ga_pr D (g_X16_edition_j38 s0 D) := by
  unfold g_X16_edition_j38
  refine pr_ite (fun c44 => ?_) (fun c44 => ?_)
  refine g_X16_edition_j84_pr _ 
  refine pr_bind (g_X13_is_pr) (fun r58 D58 => ?_)
  refine pr_ite (fun c61 => ?_) (fun c61 => ?_)
  refine g_X16_edition_j80_pr _ 
  refine pr_ck (fun ha75 => ?_)
  refine pr_ite (fun c77 => ?_) (fun c77 => ?_)
  refine g_X16_edition_j84_pr _ 
  refine g_X16_edition_j80_pr _ 
theorem g_X16_edition_pr {D : ga_D} : ga_pr D (g_X16_edition D) := by
  unfold g_X16_edition
  refine pr_bind (g_X16_take_pr) (fun r4 D4 => ?_)
  refine pr_ite (fun c14 => ?_) (fun c14 => ?_)
  refine pr_ck (fun ha37 => ?_)
  refine g_X16_edition_j38_pr _ _ 
  refine g_X16_edition_j38_pr _ _ 
theorem g_X16_read_l17_pr  {k45 : ga_D → ga_S} (hk45 : ∀ (D : ga_D), ga_pr D (k45 D)) : ∀ (n : Nat) (D : ga_D), ga_pr D (g_X16_read_l17 n D k45) := by
  intro n
  induction n with
  | zero => intro D; exact pr_none
  | succ n ih =>
    intro D
    show ga_pr D (if D 4821 3 = 0 then (k45 D) else (if D 4783 6 ≤ D 4821 2 then (k45 D) else (ga_bind (g_X16_edition D) (fun r39 D39 => g_X16_read_l17 n D39 k45))))
    refine pr_ite (fun c21 => ?_) (fun c21 => ?_)
    exact hk45 _ 
    refine pr_ite (fun c35 => ?_) (fun c35 => ?_)
    exact hk45 _ 
    refine pr_bind (g_X16_edition_pr) (fun r39 D39 => ?_)
    exact ih _ 
theorem g_X16_read_pr {D : ga_D} : ga_pr D (g_X16_read D) := by
  unfold g_X16_read
  refine pr_bind (g_X15_clear_pr) (fun r4 D4 => ?_)
  refine pr_upd (ga_Pn K_4821 rfl) (fun D9 => ?_)
  refine pr_upd (ga_Pn K_4821 rfl) (fun D14 => ?_)
  refine g_X16_read_l17_pr (fun D45 => ?_) _ _ 
  refine pr_ck (fun hr49 => ?_)
  exact pr_some
theorem g_X13_copy_pr {x0 x1 : Int} {D : ga_D} : ga_pr D (g_X13_copy x0 x1 D) := by
  unfold g_X13_copy
  refine pr_ck (fun hk2_0 => ?_)
  refine pr_ck (fun hk5_1 => ?_)
  refine pr_upd (ga_Pn hk5_1 rfl) (fun D5 => ?_)
  refine pr_upd (ga_Pn hk5_1 rfl) (fun D13 => ?_)
  refine pr_ck (fun ha30 => ?_)
  refine pr_cpy (fun _ => ga_Pn (KO_12_1 hk5_1) rfl) (fun D30 => ?_)
  refine pr_ck (fun ha47 => ?_)
  refine pr_cpy (fun _ => ga_Pn (KO_12_2 hk5_1) rfl) (fun D47 => ?_)
  refine pr_ck (fun ha64 => ?_)
  refine pr_cpy (fun _ => ga_Pn (KO_12_3 hk5_1) rfl) (fun D64 => ?_)
  refine pr_ck (fun ha81 => ?_)
  refine pr_cpy (fun _ => ga_Pn (KO_12_4 hk5_1) rfl) (fun D81 => ?_)
  refine pr_ck (fun ha98 => ?_)
  refine pr_cpy (fun _ => ga_Pn (KO_12_5 hk5_1) rfl) (fun D98 => ?_)
  exact pr_some
theorem g_X15_copy_pr {x0 x1 : Int} {D : ga_D} : ga_pr D (g_X15_copy x0 x1 D) := by
  unfold g_X15_copy
  refine pr_ck (fun hk2_0 => ?_)
  refine pr_ck (fun hk5_1 => ?_)
  refine pr_upd (ga_Pn hk5_1 rfl) (fun D5 => ?_)
  refine pr_upd (ga_Pn hk5_1 rfl) (fun D13 => ?_)
  refine pr_upd (ga_Pn hk5_1 rfl) (fun D21 => ?_)
  refine pr_upd (ga_Pn hk5_1 rfl) (fun D29 => ?_)
  refine pr_ck (fun ha46 => ?_)
  refine pr_cpy (fun _ => ga_Pn (KO_13_1 hk5_1) rfl) (fun D46 => ?_)
  refine pr_ck (fun ha65 => ?_)
  refine pr_cpy (fun _ => ga_Pn (KO_13_2 hk5_1) rfl) (fun D65 => ?_)
  refine pr_ck (fun ha82 => ?_)
  refine pr_cpy (fun _ => ga_Pn (KO_13_3 hk5_1) rfl) (fun D82 => ?_)
  refine pr_ck (fun ha101 => ?_)
  refine pr_cpy (fun _ => ga_Pn (KO_13_4 hk5_1) rfl) (fun D101 => ?_)
  refine pr_ck (fun ha118 => ?_)
  refine pr_cpy (fun _ => ga_Pn (KO_13_5 hk5_1) rfl) (fun D118 => ?_)
  refine pr_ck (fun ha135 => ?_)
  refine pr_cpy (fun _ => ga_Pn (KO_13_6 hk5_1) rfl) (fun D135 => ?_)
  refine pr_ck (fun ha152 => ?_)
  refine pr_cpy (fun _ => ga_Pn (KO_13_7 hk5_1) rfl) (fun D152 => ?_)
  refine pr_ck (fun ha169 => ?_)
  refine pr_cpy (fun _ => ga_Pn (KO_13_8 hk5_1) rfl) (fun D169 => ?_)
  refine pr_ck (fun ha186 => ?_)
  refine pr_cpy (fun _ => ga_Pn (KO_13_9 hk5_1) rfl) (fun D186 => ?_)
  refine pr_ck (fun ha203 => ?_)
  refine pr_cpy (fun _ => ga_Pn (KO_13_11 hk5_1) rfl) (fun D203 => ?_)
  refine pr_ck (fun ha222 => ?_)
  refine pr_cpy (fun _ => ga_Pn (KO_13_10 hk5_1) rfl) (fun D222 => ?_)
  exact pr_some
theorem g_X12_read_j56_pr  (x1 : Int) (D : ga_D) : ga_pr D (g_X12_read_j56 x1 D) := by
  unfold g_X12_read_j56
  refine pr_upd (ga_Pn K_4783 rfl) (fun D61 => ?_)
  refine pr_ite (fun c65 => ?_) (fun c65 => ?_)
  exact pr_some
  exact pr_some
theorem g_X12_read_pr {D : ga_D} : ga_pr D (g_X12_read D) := by
  unfold g_X12_read
  refine pr_bind (g_X13_split_pr) (fun r4 D4 => ?_)
  refine pr_bind (g_X16_read_pr) (fun r11 D11 => ?_)
  refine pr_ite (fun c16 => ?_) (fun c16 => ?_)
  refine g_X12_read_j56_pr _ _ 
  refine pr_bind (g_X13_copy_pr) (fun r27 D27 => ?_)
  refine pr_bind (g_X15_copy_pr) (fun r38 D38 => ?_)
  refine pr_upd (ga_Pn K_4782 rfl) (fun D43 => ?_)
  refine pr_upd (ga_Pn K_4782 rfl) (fun D48 => ?_)
  refine pr_upd (ga_Pn K_4782 rfl) (fun D53 => ?_)
  refine g_X12_read_j56_pr _ _ 
theorem g_X12_test_pr {x1 x2 : Int} {D : ga_D} : ga_pr D (g_X12_test x1 x2 D) := by
  unfold g_X12_test
  refine pr_ite (fun c1 => ?_) (fun c1 => ?_)
  exact pr_some
  refine pr_ite (fun c7 => ?_) (fun c7 => ?_)
  exact pr_some
  refine pr_ite (fun c12 => ?_) (fun c12 => ?_)
  exact pr_some
  refine pr_ite (fun c18 => ?_) (fun c18 => ?_)
  refine pr_ck (fun ha29 => ?_)
  refine pr_upd (ga_Pn K_4824 rfl) (fun D29 => ?_)
  exact pr_some
  exact pr_some
theorem g_X12_way_pr {x1 : Int} {D : ga_D} : ga_pr D (g_X12_way x1 D) := by
  unfold g_X12_way
  refine pr_let (fun v4 => ?_)
  refine pr_ck (fun hp7 => ?_)
  refine pr_upd (ga_Pn K_4782 rfl) (fun D7 => ?_)
  refine pr_ck (fun hr11 => ?_)
  exact pr_some
theorem g_X12_walkNumber_pr {D : ga_D} : ga_pr D (g_X12_walkNumber D) := by
  unfold g_X12_walkNumber
  refine pr_upd (ga_Pn K_4782 rfl) (fun D15 => ?_)
  refine pr_ck (fun ha18 => ?_)
  exact pr_some
theorem g_X12_walkItem_j287_pr  {k89 : Int → Int → Int → ga_D → ga_S} (hk89 : ∀ (x2 x4 x6 : Int) (D : ga_D), ga_pr D (k89 x2 x4 x6 D)) (x2 x4 x6 x7 x8 x9 x10 x11 : Int) (D : ga_D) : ga_pr D (g_X12_walkItem_j287 x2 x4 x6 x7 x8 x9 x10 x11 D k89) := by
  unfold g_X12_walkItem_j287
  refine pr_ite (fun c290 => ?_) (fun c290 => ?_)
  exact hk89 _ _ _ _ 
  refine pr_bind (g_X12_term_pr) (fun r306 D306 => ?_)
  refine pr_let (fun v310 => ?_)
  refine pr_bind (g_X12_term_pr) (fun r325 D325 => ?_)
  refine pr_let (fun v329 => ?_)
  exact hk89 _ _ _ _ 
theorem g_X12_walkItem_j285_pr  {k89 : Int → Int → Int → ga_D → ga_S} (hk89 : ∀ (x2 x4 x6 : Int) (D : ga_D), ga_pr D (k89 x2 x4 x6 D)) (x2 x4 x7 x8 x9 x10 x11 s0 : Int) (D : ga_D) : ga_pr D (g_X12_walkItem_j285 x2 x4 x7 x8 x9 x10 x11 s0 D k89) := by
  unfold g_X12_walkItem_j285
  refine g_X12_walkItem_j287_pr (fun x2 x4 x6 D89 => ?_) _ _ _ _ _ _ _ _ _ 
  exact hk89 _ _ _ _ 
theorem g_X12_walkItem_j248_pr  {k89 : Int → Int → Int → ga_D → ga_S} (hk89 : ∀ (x2 x4 x6 : Int) (D : ga_D), ga_pr D (k89 x2 x4 x6 D)) (x2 x4 x6 x7 x8 x9 x10 x11 : Int) (D : ga_D) : ga_pr D (g_X12_walkItem_j248 x2 x4 x6 x7 x8 x9 x10 x11 D k89) := by
  unfold g_X12_walkItem_j248
  refine pr_ite (fun c251 => ?_) (fun c251 => ?_)
  refine g_X12_walkItem_j287_pr (fun x2 x4 x6 D89 => ?_) _ _ _ _ _ _ _ _ _ 
  exact hk89 _ _ _ _ 
  refine pr_ck (fun ha260 => ?_)
  refine pr_ite (fun c262 => ?_) (fun c262 => ?_)
  refine pr_ite (fun c272 => ?_) (fun c272 => ?_)
  refine g_X12_walkItem_j285_pr (fun x2 x4 x6 D89 => ?_) _ _ _ _ _ _ _ _ _ 
  exact hk89 _ _ _ _ 
  refine g_X12_walkItem_j285_pr (fun x2 x4 x6 D89 => ?_) _ _ _ _ _ _ _ _ _ 
  exact hk89 _ _ _ _ 
  refine g_X12_walkItem_j285_pr (fun x2 x4 x6 D89 => ?_) _ _ _ _ _ _ _ _ _ 
  exact hk89 _ _ _ _ 
theorem g_X12_walkItem_j215_pr  {k89 : Int → Int → Int → ga_D → ga_S} (hk89 : ∀ (x2 x4 x6 : Int) (D : ga_D), ga_pr D (k89 x2 x4 x6 D)) (x2 x4 x6 x7 x8 x9 x10 x11 : Int) (D : ga_D) : ga_pr D (g_X12_walkItem_j215 x2 x4 x6 x7 x8 x9 x10 x11 D k89) := by
  unfold g_X12_walkItem_j215
  refine pr_bind (g_X13_is_pr) (fun r226 D226 => ?_)
  refine pr_ite (fun c229 => ?_) (fun c229 => ?_)
  refine g_X12_walkItem_j248_pr (fun x2 x4 x6 D89 => ?_) _ _ _ _ _ _ _ _ _ 
  exact hk89 _ _ _ _ 
  refine pr_upd (ga_Pn K_4782 rfl) (fun D239 => ?_)
  refine pr_bind (g_X12_walkNumber_pr) (fun r243 D243 => ?_)
  refine g_X12_walkItem_j248_pr (fun x2 x4 x6 D89 => ?_) _ _ _ _ _ _ _ _ _ 
  exact hk89 _ _ _ _ 
theorem g_X12_walkItem_j152_pr  {k89 : Int → Int → Int → ga_D → ga_S} (hk89 : ∀ (x2 x4 x6 : Int) (D : ga_D), ga_pr D (k89 x2 x4 x6 D)) (x2 x4 x6 s0 : Int) (D : ga_D) : ga_pr D (g_X12_walkItem_j152 x2 x4 x6 s0 D k89) := by
  unfold g_X12_walkItem_j152
  refine pr_bind (g_X12_walkNumber_pr) (fun r155 D155 => ?_)
  refine pr_upd (ga_Pn K_4782 rfl) (fun D167 => ?_)
  refine pr_bind (g_X12_walkNumber_pr) (fun r171 D171 => ?_)
  refine pr_bind (g_X13_is_pr) (fun r193 D193 => ?_)
  refine pr_ite (fun c196 => ?_) (fun c196 => ?_)
  refine g_X12_walkItem_j215_pr (fun x2 x4 x6 D89 => ?_) _ _ _ _ _ _ _ _ _ 
  exact hk89 _ _ _ _ 
  refine pr_upd (ga_Pn K_4782 rfl) (fun D206 => ?_)
  refine pr_bind (g_X12_walkNumber_pr) (fun r210 D210 => ?_)
  refine g_X12_walkItem_j215_pr (fun x2 x4 x6 D89 => ?_) _ _ _ _ _ _ _ _ _ 
  exact hk89 _ _ _ _ 
theorem g_X12_walkItem_j123_pr  {k89 : Int → Int → Int → ga_D → ga_S} (hk89 : ∀ (x2 x4 x6 : Int) (D : ga_D), ga_pr D (k89 x2 x4 x6 D)) (x2 x4 x6 : Int) (D : ga_D) : ga_pr D (g_X12_walkItem_j123 x2 x4 x6 D k89) := by
  unfold g_X12_walkItem_j123
  refine pr_upd (ga_Pn K_4782 rfl) (fun D135 => ?_)
  refine pr_bind (g_X13_is_pr) (fun r141 D141 => ?_)
  refine pr_ite (fun c144 => ?_) (fun c144 => ?_)
  refine g_X12_walkItem_j152_pr (fun x2 x4 x6 D89 => ?_) _ _ _ _ _ 
  exact hk89 _ _ _ _ 
  refine g_X12_walkItem_j152_pr (fun x2 x4 x6 D89 => ?_) _ _ _ _ _ 
  exact hk89 _ _ _ _ 
theorem g_X12_walkItem_l89_pr  {k334 : Int → Int → Int → ga_D → ga_S} (hk334 : ∀ (x2 x4 x6 : Int) (D : ga_D), ga_pr D (k334 x2 x4 x6 D)) : ∀ (n : Nat) (x2 x4 x6 : Int) (D : ga_D), ga_pr D (g_X12_walkItem_l89 n x2 x4 x6 D k334) := by
  intro n
  induction n with
  | zero => intro x2 x4 x6 D; exact pr_none
  | succ n ih =>
    intro x2 x4 x6 D
    show ga_pr D (ga_bind (g_X13_is 4790 (D 4782 18) 112 D) (fun r100 D100 => if r100 ≠ 0 then (g_X12_walkItem_j123 x2 x4 x6 D100 (fun x2 x4 x6 D89 => g_X12_walkItem_l89 n x2 x4 x6 D89 k334)) else (ga_bind (g_X13_is 4790 (D100 4782 18) 113 D100) (fun r117 D117 => if r117 = 0 then (k334 x2 x4 x6 D117) else (g_X12_walkItem_j123 x2 x4 x6 D117 (fun x2 x4 x6 D89 => g_X12_walkItem_l89 n x2 x4 x6 D89 k334))))))
    refine pr_bind (g_X13_is_pr) (fun r100 D100 => ?_)
    refine pr_ite (fun c103 => ?_) (fun c103 => ?_)
    refine g_X12_walkItem_j123_pr (fun x2 x4 x6 D89 => ?_) _ _ _ _ 
    exact ih _ _ _ _ 
    refine pr_bind (g_X13_is_pr) (fun r117 D117 => ?_)
    refine pr_ite (fun c120 => ?_) (fun c120 => ?_)
    exact hk334 _ _ _ _ 
    refine g_X12_walkItem_j123_pr (fun x2 x4 x6 D89 => ?_) _ _ _ _ 
    exact ih _ _ _ _ 
theorem g_X12_walkItem_pr {D : ga_D} : ga_pr D (g_X12_walkItem D) := by
  unfold g_X12_walkItem
  refine pr_upd (ga_Pn K_4782 rfl) (fun D15 => ?_)
  refine pr_ck (fun ha18 => ?_)
  refine pr_let (fun v19 => ?_)
  refine pr_ck (fun hn24 => ?_)
  refine pr_ite (fun c24 => ?_) (fun c24 => ?_)
  refine pr_ck (fun hn69 => ?_)
  refine pr_ite (fun c69 => ?_) (fun c69 => ?_)
  refine g_X12_walkItem_l89_pr (fun x2 x4 x6 D334 => ?_) _ _ _ _ _ 
  refine pr_upd (ga_Pn K_4782 rfl) (fun D346 => ?_)
  refine pr_bind (g_X13_is_pr) (fun r352 D352 => ?_)
  refine pr_upd (ga_Pn K_4782 rfl) (fun D360 => ?_)
  refine pr_bind (g_X12_walkNumber_pr) (fun r367 D367 => ?_)
  refine pr_bind (g_X12_bySum_pr) (fun r374 D374 => ?_)
  exact pr_some
  refine pr_bind (g_X12_walkNumber_pr) (fun r74 D74 => ?_)
  refine pr_bind (g_X12_byClass_pr) (fun r77 D77 => ?_)
  exact pr_some
  refine pr_bind (g_X12_walkNumber_pr) (fun r28 D28 => ?_)
  refine pr_upd (ga_Pn K_4782 rfl) (fun D44 => ?_)
  refine pr_bind (g_X13_is_pr) (fun r50 D50 => ?_)
  refine pr_bind (g_X12_walkNumber_pr) (fun r58 D58 => ?_)
  refine pr_bind (g_X12_byTest_pr) (fun r61 D61 => ?_)
  exact pr_some
theorem g_X12_walkRule_j136_pr  {k35 : Int → Int → Int → Int → Int → Int → Int → Int → ga_D → ga_S} (hk35 : ∀ (x1 x2 x3 x4 x5 x6 x7 x8 : Int) (D : ga_D), ga_pr D (k35 x1 x2 x3 x4 x5 x6 x7 x8 D)) (x1 x2 x3 x4 x5 x6 s0 : Int) (D : ga_D) : ga_pr D (g_X12_walkRule_j136 x1 x2 x3 x4 x5 x6 s0 D k35) := by
  unfold g_X12_walkRule_j136
  refine pr_bind (g_X13_is_pr) (fun r149 D149 => ?_)
  exact hk35 _ _ _ _ _ _ _ _ _ 
theorem g_X12_walkRule_j134_pr  {k35 : Int → Int → Int → Int → Int → Int → Int → Int → ga_D → ga_S} (hk35 : ∀ (x1 x2 x3 x4 x5 x6 x7 x8 : Int) (D : ga_D), ga_pr D (k35 x1 x2 x3 x4 x5 x6 x7 x8 D)) (x1 x2 x3 x4 x5 x6 x7 : Int) (D : ga_D) : ga_pr D (g_X12_walkRule_j134 x1 x2 x3 x4 x5 x6 x7 D k35) := by
  unfold g_X12_walkRule_j134
  refine g_X12_walkRule_j136_pr (fun x1 x2 x3 x4 x5 x6 x7 x8 D35 => ?_) _ _ _ _ _ _ _ _ 
  exact hk35 _ _ _ _ _ _ _ _ _ 
theorem g_X12_walkRule_j112_pr  {k35 : Int → Int → Int → Int → Int → Int → Int → Int → ga_D → ga_S} (hk35 : ∀ (x1 x2 x3 x4 x5 x6 x7 x8 : Int) (D : ga_D), ga_pr D (k35 x1 x2 x3 x4 x5 x6 x7 x8 D)) (x1 x2 x3 x4 x5 x7 x10 s0 s1 : Int) (D : ga_D) : ga_pr D (g_X12_walkRule_j112 x1 x2 x3 x4 x5 x7 x10 s0 s1 D k35) := by
  unfold g_X12_walkRule_j112
  refine pr_let (fun v113 => ?_)
  refine pr_ite (fun c118 => ?_) (fun c118 => ?_)
  refine g_X12_walkRule_j134_pr (fun x1 x2 x3 x4 x5 x6 x7 x8 D35 => ?_) _ _ _ _ _ _ _ _ 
  exact hk35 _ _ _ _ _ _ _ _ _ 
  refine pr_ite (fun c124 => ?_) (fun c124 => ?_)
  refine g_X12_walkRule_j134_pr (fun x1 x2 x3 x4 x5 x6 x7 x8 D35 => ?_) _ _ _ _ _ _ _ _ 
  exact hk35 _ _ _ _ _ _ _ _ _ 
  refine g_X12_walkRule_j136_pr (fun x1 x2 x3 x4 x5 x6 x7 x8 D35 => ?_) _ _ _ _ _ _ _ _ 
  exact hk35 _ _ _ _ _ _ _ _ _ 
theorem g_X12_walkRule_j97_pr  {k35 : Int → Int → Int → Int → Int → Int → Int → Int → ga_D → ga_S} (hk35 : ∀ (x1 x2 x3 x4 x5 x6 x7 x8 : Int) (D : ga_D), ga_pr D (k35 x1 x2 x3 x4 x5 x6 x7 x8 D)) (x1 x2 x3 x4 x6 x7 x10 s0 s1 : Int) (D : ga_D) : ga_pr D (g_X12_walkRule_j97 x1 x2 x3 x4 x6 x7 x10 s0 s1 D k35) := by
  unfold g_X12_walkRule_j97
  refine pr_let (fun v98 => ?_)
  refine pr_ite (fun c104 => ?_) (fun c104 => ?_)
  refine g_X12_walkRule_j112_pr (fun x1 x2 x3 x4 x5 x6 x7 x8 D35 => ?_) _ _ _ _ _ _ _ _ _ _ 
  exact hk35 _ _ _ _ _ _ _ _ _ 
  refine g_X12_walkRule_j112_pr (fun x1 x2 x3 x4 x5 x6 x7 x8 D35 => ?_) _ _ _ _ _ _ _ _ _ _ 
  exact hk35 _ _ _ _ _ _ _ _ _ 
theorem g_X12_walkRule_j92_pr  {k35 : Int → Int → Int → Int → Int → Int → Int → Int → ga_D → ga_S} (hk35 : ∀ (x1 x2 x3 x4 x5 x6 x7 x8 : Int) (D : ga_D), ga_pr D (k35 x1 x2 x3 x4 x5 x6 x7 x8 D)) (x1 x2 x3 x4 x6 x7 x10 s0 : Int) (D : ga_D) : ga_pr D (g_X12_walkRule_j92 x1 x2 x3 x4 x6 x7 x10 s0 D k35) := by
  unfold g_X12_walkRule_j92
  refine g_X12_walkRule_j97_pr (fun x1 x2 x3 x4 x5 x6 x7 x8 D35 => ?_) _ _ _ _ _ _ _ _ _ _ 
  exact hk35 _ _ _ _ _ _ _ _ _ 
theorem g_X12_walkRule_l35_pr  {k157 : Int → Int → Int → Int → Int → Int → Int → ga_D → ga_S} (hk157 : ∀ (x1 x2 x3 x4 x5 x6 x7 : Int) (D : ga_D), ga_pr D (k157 x1 x2 x3 x4 x5 x6 x7 D)) : ∀ (n : Nat) (x1 x2 x3 x4 x5 x6 x7 x8 : Int) (D : ga_D), ga_pr D (g_X12_walkRule_l35 n x1 x2 x3 x4 x5 x6 x7 x8 D k157) := by
  intro n
  induction n with
  | zero => intro x1 x2 x3 x4 x5 x6 x7 x8 D; exact pr_none
  | succ n ih =>
    intro x1 x2 x3 x4 x5 x6 x7 x8 D
    show ga_pr D (if x8 = 0 then (k157 x1 x2 x3 x4 x5 x6 x7 D) else (ga_let (ga_set D 4782 18 (aw_w32 ((D 4782 18) + 1))) (fun D47 => ga_bind (g_X13_is 4790 (D47 4782 18) 105 D47) (fun r61 D61 => ga_bind (g_X12_walkItem D61) (fun r67 D67 => ga_let (aw_or x4 r61) (fun v77 => if r61 = 0 then (g_X12_walkRule_j92 x1 x2 x3 v77 x6 x7 r67 x5 D67 (fun x1 x2 x3 x4 x5 x6 x7 x8 D35 => g_X12_walkRule_l35 n x1 x2 x3 x4 x5 x6 x7 x8 D35 k157)) else (if r67 = 2 then (g_X12_walkRule_j97 x1 x2 x3 v77 x6 x7 r67 0 x5 D67 (fun x1 x2 x3 x4 x5 x6 x7 x8 D35 => g_X12_walkRule_l35 n x1 x2 x3 x4 x5 x6 x7 x8 D35 k157)) else (g_X12_walkRule_j92 x1 x2 x3 v77 x6 x7 r67 x5 D67 (fun x1 x2 x3 x4 x5 x6 x7 x8 D35 => g_X12_walkRule_l35 n x1 x2 x3 x4 x5 x6 x7 x8 D35 k157)))))))))
    refine pr_ite (fun c37 => ?_) (fun c37 => ?_)
    exact hk157 _ _ _ _ _ _ _ _ 
    refine pr_upd (ga_Pn K_4782 rfl) (fun D47 => ?_)
    refine pr_bind (g_X13_is_pr) (fun r61 D61 => ?_)
    refine pr_bind (g_X12_walkItem_pr) (fun r67 D67 => ?_)
    refine pr_let (fun v77 => ?_)
    refine pr_ite (fun c83 => ?_) (fun c83 => ?_)
    refine g_X12_walkRule_j92_pr (fun x1 x2 x3 x4 x5 x6 x7 x8 D35 => ?_) _ _ _ _ _ _ _ _ _ 
    exact ih _ _ _ _ _ _ _ _ _ 
    refine pr_ite (fun c89 => ?_) (fun c89 => ?_)
    refine g_X12_walkRule_j97_pr (fun x1 x2 x3 x4 x5 x6 x7 x8 D35 => ?_) _ _ _ _ _ _ _ _ _ _ 
    exact ih _ _ _ _ _ _ _ _ _ 
    refine g_X12_walkRule_j92_pr (fun x1 x2 x3 x4 x5 x6 x7 x8 D35 => ?_) _ _ _ _ _ _ _ _ _ 
    exact ih _ _ _ _ _ _ _ _ _ 
theorem g_X12_walkRule_j246_pr  (x7 s0 s1 s2 : Int) (D : ga_D) : ga_pr D (g_X12_walkRule_j246 x7 s0 s1 s2 D) := by
  unfold g_X12_walkRule_j246
  refine pr_bind (g_X12_note_pr) (fun r248 D248 => ?_)
  exact pr_some
theorem g_X12_walkRule_j212_pr  (x1 x3 x6 x7 s0 : Int) (D : ga_D) : ga_pr D (g_X12_walkRule_j212 x1 x3 x6 x7 s0 D) := by
  unfold g_X12_walkRule_j212
  refine pr_ite (fun c219 => ?_) (fun c219 => ?_)
  refine pr_ite (fun c228 => ?_) (fun c228 => ?_)
  refine pr_ite (fun c238 => ?_) (fun c238 => ?_)
  refine g_X12_walkRule_j246_pr _ _ _ _ _ 
  refine g_X12_walkRule_j246_pr _ _ _ _ _ 
  refine g_X12_walkRule_j246_pr _ _ _ _ _ 
  refine g_X12_walkRule_j246_pr _ _ _ _ _ 
theorem g_X12_walkRule_j211_pr  (x1 x3 x6 x7 : Int) (D : ga_D) : ga_pr D (g_X12_walkRule_j211 x1 x3 x6 x7 D) := by
  unfold g_X12_walkRule_j211
  refine g_X12_walkRule_j212_pr _ _ _ _ _ _ 
theorem g_X12_walkRule_pr {x1 x2 : Int} {D : ga_D} : ga_pr D (g_X12_walkRule x1 x2 D) := by
  unfold g_X12_walkRule
  refine pr_ck (fun ha9 => ?_)
  refine pr_upd (ga_Pn K_4782 rfl) (fun D12 => ?_)
  refine pr_bind (g_X12_walkNumber_pr) (fun r16 D16 => ?_)
  refine g_X12_walkRule_l35_pr (fun x1 x2 x3 x4 x5 x6 x7 D157 => ?_) _ _ _ _ _ _ _ _ _ _ 
  refine pr_ite (fun c158 => ?_) (fun c158 => ?_)
  refine pr_ite (fun c199 => ?_) (fun c199 => ?_)
  refine g_X12_walkRule_j211_pr _ _ _ _ _ 
  refine pr_ite (fun c204 => ?_) (fun c204 => ?_)
  refine g_X12_walkRule_j211_pr _ _ _ _ _ 
  refine g_X12_walkRule_j212_pr _ _ _ _ _ _ 
  refine pr_ite (fun c168 => ?_) (fun c168 => ?_)
  refine pr_upd (ga_Pn K_4782 rfl) (fun D184 => ?_)
  exact pr_some
  refine pr_ite (fun c173 => ?_) (fun c173 => ?_)
  refine pr_upd (ga_Pn K_4782 rfl) (fun D184 => ?_)
  exact pr_some
  refine pr_upd (ga_Pn K_4782 rfl) (fun D184 => ?_)
  exact pr_some
theorem g_X12_walk_j39_pr  {k18 : Int → Int → ga_D → ga_S} (hk18 : ∀ (x3 x4 : Int) (D : ga_D), ga_pr D (k18 x3 x4 D)) (x3 x4 s0 s1 : Int) (D : ga_D) : ga_pr D (g_X12_walk_j39 x3 x4 s0 s1 D k18) := by
  unfold g_X12_walk_j39
  refine pr_bind (g_X12_walkRule_pr) (fun r39 D39 => ?_)
  refine pr_let (fun v42 => ?_)
  exact hk18 _ _ _ 
theorem g_X12_walk_l18_pr  {k48 : Int → ga_D → ga_S} (hk48 : ∀ (x3 : Int) (D : ga_D), ga_pr D (k48 x3 D)) : ∀ (n : Nat) (x3 x4 : Int) (D : ga_D), ga_pr D (g_X12_walk_l18 n x3 x4 D k48) := by
  intro n
  induction n with
  | zero => intro x3 x4 D; exact pr_none
  | succ n ih =>
    intro x3 x4 D
    show ga_pr D (ga_bind (g_X12_ruleEnd D) (fun r21 D21 => if r21 ≤ x4 then (k48 x3 D21) else (if x3 ≠ 0 then (g_X12_walk_j39 x3 x4 0 x4 D21 (fun x3 x4 D18 => g_X12_walk_l18 n x3 x4 D18 k48)) else (g_X12_walk_j39 x3 x4 1 x4 D21 (fun x3 x4 D18 => g_X12_walk_l18 n x3 x4 D18 k48)))))
    refine pr_bind (g_X12_ruleEnd_pr) (fun r21 D21 => ?_)
    refine pr_ite (fun c24 => ?_) (fun c24 => ?_)
    exact hk48 _ _ 
    refine pr_ite (fun c31 => ?_) (fun c31 => ?_)
    refine g_X12_walk_j39_pr (fun x3 x4 D18 => ?_) _ _ _ _ _ 
    exact ih _ _ _ 
    refine g_X12_walk_j39_pr (fun x3 x4 D18 => ?_) _ _ _ _ _ 
    exact ih _ _ _ 
theorem g_X12_walk_l7_pr  {k54 : ga_D → ga_S} (hk54 : ∀ (D : ga_D), ga_pr D (k54 D)) : ∀ (n : Nat) (x3 : Int) (D : ga_D), ga_pr D (g_X12_walk_l7 n x3 D k54) := by
  intro n
  induction n with
  | zero => intro x3 D; exact pr_none
  | succ n ih =>
    intro x3 D
    show ga_pr D (if 2 ≤ x3 then (k54 D) else (ga_bind (g_X12_firstRule D) (fun r13 D13 => g_X12_walk_l18 aw_fu x3 r13 D13 (fun x3 D48 => ga_let (aw_w32 (x3 + 1)) (fun v48 => g_X12_walk_l7 n v48 D48 k54)))))
    refine pr_ite (fun c9 => ?_) (fun c9 => ?_)
    exact hk54 _ 
    refine pr_bind (g_X12_firstRule_pr) (fun r13 D13 => ?_)
    refine g_X12_walk_l18_pr (fun x3 D48 => ?_) _ _ _ _ 
    refine pr_let (fun v48 => ?_)
    exact ih _ _ 
theorem g_X12_walk_pr {x1 : Int} {D : ga_D} : ga_pr D (g_X12_walk x1 D) := by
  unfold g_X12_walk
  refine pr_bind (g_X12_begin_pr) (fun r2 D2 => ?_)
  refine g_X12_walk_l7_pr (fun D54 => ?_) _ _ _ 
  refine pr_bind (g_X12_verdict_pr) (fun r55 D55 => ?_)
  exact pr_some
theorem g_X12_cls_pr {x1 : Int} {D : ga_D} : ga_pr D (g_X12_cls x1 D) := by
  unfold g_X12_cls
  refine pr_bind (g_X12_bit_pr) (fun r5 D5 => ?_)
  exact pr_some
theorem g_X12_mark_pr {x1 : Int} {D : ga_D} : ga_pr D (g_X12_mark x1 D) := by
  unfold g_X12_mark
  refine pr_ite (fun c1 => ?_) (fun c1 => ?_)
  exact pr_some
  refine pr_ite (fun c9 => ?_) (fun c9 => ?_)
  exact pr_some
  refine pr_ck (fun ha17 => ?_)
  exact pr_some
theorem g_X12_open_l8_pr  {k31 : Int → Int → ga_D → ga_S} {k84 : ga_D → ga_S} (hk31 : ∀ (x2 x4 : Int) (D : ga_D), ga_pr D (k31 x2 x4 D)) (hk84 : ∀ (D : ga_D), ga_pr D (k84 D)) : ∀ (n : Nat) (x1 x2 x3 x4 : Int) (D : ga_D), ga_pr D (g_X12_open_l8 n x1 x2 x3 x4 D k31 k84) := by
  intro n
  induction n with
  | zero => intro x1 x2 x3 x4 D; exact pr_none
  | succ n ih =>
    intro x1 x2 x3 x4 D
    show ga_pr D (ga_bind (g_X12_ruleEnd D) (fun r11 D11 => if r11 ≤ x4 then (k84 D11) else (ga_bind (g_X12_isOpen x4 D11) (fun r20 D20 => if r20 = 0 then (ga_let (aw_w32 (x4 + 1)) (fun v78 => g_X12_open_l8 n x1 x2 x3 v78 D20 k31 k84)) else (if x3 ≠ x1 then (ga_let (aw_w32 (x3 + 1)) (fun v75 => ga_let (aw_w32 (x4 + 1)) (fun v78 => g_X12_open_l8 n x1 x2 v75 v78 D20 k31 k84))) else (k31 x2 x4 D20))))))
    refine pr_bind (g_X12_ruleEnd_pr) (fun r11 D11 => ?_)
    refine pr_ite (fun c14 => ?_) (fun c14 => ?_)
    exact hk84 _ 
    refine pr_bind (g_X12_isOpen_pr) (fun r20 D20 => ?_)
    refine pr_ite (fun c23 => ?_) (fun c23 => ?_)
    refine pr_let (fun v78 => ?_)
    exact ih _ _ _ _ _ 
    refine pr_ite (fun c28 => ?_) (fun c28 => ?_)
    refine pr_let (fun v75 => ?_)
    refine pr_let (fun v78 => ?_)
    exact ih _ _ _ _ _ 
    exact hk31 _ _ _ 
theorem g_X12_open_pr {x1 x2 : Int} {D : ga_D} : ga_pr D (g_X12_open x1 x2 D) := by
  unfold g_X12_open
  refine pr_bind (g_X12_firstRule_pr) (fun r3 D3 => ?_)
  refine g_X12_open_l8_pr (fun x2 x4 D31 => ?_) (fun D84 => ?_) _ _ _ _ _ _ 
  refine pr_ite (fun c32 => ?_) (fun c32 => ?_)
  refine pr_ite (fun c42 => ?_) (fun c42 => ?_)
  refine pr_ite (fun c60 => ?_) (fun c60 => ?_)
  exact pr_some
  refine pr_ck (fun ha69 => ?_)
  exact pr_some
  refine pr_ck (fun ha54 => ?_)
  exact pr_some
  exact pr_some
  exact pr_some
theorem g_X12_isLacking_l7_pr  {k51 : Int → ga_D → ga_S} (hk51 : ∀ (x2 : Int) (D : ga_D), ga_pr D (k51 x2 D)) : ∀ (n : Nat) (x1 x2 x3 : Int) (D : ga_D), ga_pr D (g_X12_isLacking_l7 n x1 x2 x3 D k51) := by
  intro n
  induction n with
  | zero => intro x1 x2 x3 D; exact pr_none
  | succ n ih =>
    intro x1 x2 x3 D
    show ga_pr D (if x1 ≤ x3 then (k51 x2 D) else (if x2 ≠ 0 then (k51 x2 D) else (ga_bind (g_X12_isOpen x3 D) (fun r18 D18 => if r18 = 0 then (ga_let (aw_w32 (x3 + 1)) (fun v45 => g_X12_isLacking_l7 n x1 0 v45 D18 k51)) else (ga_ck (0 ≤ x3 ∧ x3 < 60) (ga_ck (0 ≤ x1 ∧ x1 < 60) (if D18 4826 x3 ≠ D18 4826 x1 then (ga_let (aw_w32 (x3 + 1)) (fun v45 => g_X12_isLacking_l7 n x1 0 v45 D18 k51)) else (ga_let (aw_w32 (x3 + 1)) (fun v45 => g_X12_isLacking_l7 n x1 1 v45 D18 k51)))))))))
    refine pr_ite (fun c9 => ?_) (fun c9 => ?_)
    exact hk51 _ _ 
    refine pr_ite (fun c13 => ?_) (fun c13 => ?_)
    exact hk51 _ _ 
    refine pr_bind (g_X12_isOpen_pr) (fun r18 D18 => ?_)
    refine pr_ite (fun c21 => ?_) (fun c21 => ?_)
    refine pr_let (fun v45 => ?_)
    exact ih _ _ _ _ 
    refine pr_ck (fun ha29 => ?_)
    refine pr_ck (fun ha35 => ?_)
    refine pr_ite (fun c36 => ?_) (fun c36 => ?_)
    refine pr_let (fun v45 => ?_)
    exact ih _ _ _ _ 
    refine pr_let (fun v45 => ?_)
    exact ih _ _ _ _ 
theorem g_X12_isLacking_pr {x1 : Int} {D : ga_D} : ga_pr D (g_X12_isLacking x1 D) := by
  unfold g_X12_isLacking
  refine pr_bind (g_X12_firstRule_pr) (fun r3 D3 => ?_)
  refine g_X12_isLacking_l7_pr (fun x2 D51 => ?_) _ _ _ _ _ 
  refine pr_ck (fun hr52 => ?_)
  exact pr_some
theorem g_X12_missing_l7_pr  {k36 : Int → ga_D → ga_S} {k52 : ga_D → ga_S} (hk36 : ∀ (x3 : Int) (D : ga_D), ga_pr D (k36 x3 D)) (hk52 : ∀ (D : ga_D), ga_pr D (k52 D)) : ∀ (n : Nat) (x1 x2 x3 : Int) (D : ga_D), ga_pr D (g_X12_missing_l7 n x1 x2 x3 D k36 k52) := by
  intro n
  induction n with
  | zero => intro x1 x2 x3 D; exact pr_none
  | succ n ih =>
    intro x1 x2 x3 D
    show ga_pr D (ga_bind (g_X12_ruleEnd D) (fun r9 D9 => if r9 ≤ x3 then (k52 D9) else (ga_bind (g_X12_isOpen x3 D9) (fun r17 D17 => if r17 = 0 then (ga_let (aw_w32 (x3 + 1)) (fun v46 => g_X12_missing_l7 n x1 x2 v46 D17 k36 k52)) else (ga_bind (g_X12_isLacking x3 D17) (fun r25 D25 => if r25 ≠ 0 then (ga_let (aw_w32 (x3 + 1)) (fun v46 => g_X12_missing_l7 n x1 x2 v46 D25 k36 k52)) else (if x2 ≠ x1 then (ga_let (aw_w32 (x2 + 1)) (fun v43 => ga_let (aw_w32 (x3 + 1)) (fun v46 => g_X12_missing_l7 n x1 v43 v46 D25 k36 k52))) else (k36 x3 D25))))))))
    refine pr_bind (g_X12_ruleEnd_pr) (fun r9 D9 => ?_)
    refine pr_ite (fun c12 => ?_) (fun c12 => ?_)
    exact hk52 _ 
    refine pr_bind (g_X12_isOpen_pr) (fun r17 D17 => ?_)
    refine pr_ite (fun c20 => ?_) (fun c20 => ?_)
    refine pr_let (fun v46 => ?_)
    exact ih _ _ _ _ 
    refine pr_bind (g_X12_isLacking_pr) (fun r25 D25 => ?_)
    refine pr_ite (fun c28 => ?_) (fun c28 => ?_)
    refine pr_let (fun v46 => ?_)
    exact ih _ _ _ _ 
    refine pr_ite (fun c33 => ?_) (fun c33 => ?_)
    refine pr_let (fun v43 => ?_)
    refine pr_let (fun v46 => ?_)
    exact ih _ _ _ _ 
    exact hk36 _ _ 
theorem g_X12_missing_pr {x1 : Int} {D : ga_D} : ga_pr D (g_X12_missing x1 D) := by
  unfold g_X12_missing
  refine pr_bind (g_X12_firstRule_pr) (fun r3 D3 => ?_)
  refine g_X12_missing_l7_pr (fun x3 D36 => ?_) (fun D52 => ?_) _ _ _ _ _ 
  refine pr_ck (fun ha41 => ?_)
  exact pr_some
  exact pr_some
theorem g_X12_explain_l9_pr  {k49 : Int → Int → ga_D → ga_S} {k118 : ga_D → ga_S} (hk49 : ∀ (x3 x5 : Int) (D : ga_D), ga_pr D (k49 x3 x5 D)) (hk118 : ∀ (D : ga_D), ga_pr D (k118 D)) : ∀ (n : Nat) (x1 x2 x3 x4 x5 : Int) (D : ga_D), ga_pr D (g_X12_explain_l9 n x1 x2 x3 x4 x5 D k49 k118) := by
  intro n
  induction n with
  | zero => intro x1 x2 x3 x4 x5 D; exact pr_none
  | succ n ih =>
    intro x1 x2 x3 x4 x5 D
    show ga_pr D (ga_bind (g_X12_ruleEnd D) (fun r12 D12 => if r12 ≤ x5 then (k118 D12) else (ga_ck (0 ≤ x5 ∧ x5 < 60) (if D12 4825 x5 ≠ 1 then (ga_let (aw_w32 (x5 + 1)) (fun v112 => g_X12_explain_l9 n x1 x2 x3 x4 v112 D12 k49 k118)) else (ga_ck (0 ≤ x5 ∧ x5 < 60) (if D12 4812 x5 ≠ x1 then (ga_let (aw_w32 (x5 + 1)) (fun v112 => g_X12_explain_l9 n x1 x2 x3 x4 v112 D12 k49 k118)) else (if x4 ≠ x2 then (ga_let (aw_w32 (x4 + 1)) (fun v109 => ga_let (aw_w32 (x5 + 1)) (fun v112 => g_X12_explain_l9 n x1 x2 x3 v109 v112 D12 k49 k118))) else (k49 x3 x5 D12))))))))
    refine pr_bind (g_X12_ruleEnd_pr) (fun r12 D12 => ?_)
    refine pr_ite (fun c15 => ?_) (fun c15 => ?_)
    exact hk118 _ 
    refine pr_ck (fun ha24 => ?_)
    refine pr_ite (fun c26 => ?_) (fun c26 => ?_)
    refine pr_let (fun v112 => ?_)
    exact ih _ _ _ _ _ _ 
    refine pr_ck (fun ha38 => ?_)
    refine pr_ite (fun c40 => ?_) (fun c40 => ?_)
    refine pr_let (fun v112 => ?_)
    exact ih _ _ _ _ _ _ 
    refine pr_ite (fun c46 => ?_) (fun c46 => ?_)
    refine pr_let (fun v109 => ?_)
    refine pr_let (fun v112 => ?_)
    exact ih _ _ _ _ _ _ 
    exact hk49 _ _ _ 
theorem g_X12_explain_pr {x1 x2 x3 : Int} {D : ga_D} : ga_pr D (g_X12_explain x1 x2 x3 D) := by
  unfold g_X12_explain
  refine pr_bind (g_X12_firstRule_pr) (fun r4 D4 => ?_)
  refine g_X12_explain_l9_pr (fun x3 x5 D49 => ?_) (fun D118 => ?_) _ _ _ _ _ _ _ 
  refine pr_ite (fun c50 => ?_) (fun c50 => ?_)
  refine pr_ite (fun c60 => ?_) (fun c60 => ?_)
  refine pr_ite (fun c91 => ?_) (fun c91 => ?_)
  exact pr_some
  refine pr_ck (fun ha103 => ?_)
  exact pr_some
  refine pr_ck (fun ha74 => ?_)
  refine pr_ck (fun ha84 => ?_)
  exact pr_some
  exact pr_some
  exact pr_some
theorem g_X12_limit_j124_pr  {k31 : Int → Int → Int → Int → ga_D → ga_S} (hk31 : ∀ (x1 x2 x4 x5 : Int) (D : ga_D), ga_pr D (k31 x1 x2 x4 x5 D)) (x1 x4 x5 : Int) (D : ga_D) : ga_pr D (g_X12_limit_j124 x1 x4 x5 D k31) := by
  unfold g_X12_limit_j124
  refine pr_ck (fun ha133 => ?_)
  refine pr_let (fun v139 => ?_)
  refine pr_let (fun v140 => ?_)
  exact hk31 _ _ _ _ _ 
theorem g_X12_limit_j95_pr  {k31 : Int → Int → Int → Int → ga_D → ga_S} (hk31 : ∀ (x1 x2 x4 x5 : Int) (D : ga_D), ga_pr D (k31 x1 x2 x4 x5 D)) (x1 x2 x4 x5 s0 : Int) (D : ga_D) : ga_pr D (g_X12_limit_j95 x1 x2 x4 x5 s0 D k31) := by
  unfold g_X12_limit_j95
  refine pr_ite (fun c99 => ?_) (fun c99 => ?_)
  refine pr_let (fun v140 => ?_)
  exact hk31 _ _ _ _ _ 
  refine pr_ite (fun c105 => ?_) (fun c105 => ?_)
  refine g_X12_limit_j124_pr (fun x1 x2 x4 x5 D31 => ?_) _ _ _ _ 
  exact hk31 _ _ _ _ _ 
  refine pr_ck (fun ha117 => ?_)
  refine pr_ite (fun c121 => ?_) (fun c121 => ?_)
  refine pr_let (fun v140 => ?_)
  exact hk31 _ _ _ _ _ 
  refine g_X12_limit_j124_pr (fun x1 x2 x4 x5 D31 => ?_) _ _ _ _ 
  exact hk31 _ _ _ _ _ 
theorem g_X12_limit_j94_pr  {k31 : Int → Int → Int → Int → ga_D → ga_S} (hk31 : ∀ (x1 x2 x4 x5 : Int) (D : ga_D), ga_pr D (k31 x1 x2 x4 x5 D)) (x1 x2 x4 x5 : Int) (D : ga_D) : ga_pr D (g_X12_limit_j94 x1 x2 x4 x5 D k31) := by
  unfold g_X12_limit_j94
  refine g_X12_limit_j95_pr (fun x1 x2 x4 x5 D31 => ?_) _ _ _ _ _ _ 
  exact hk31 _ _ _ _ _ 
theorem g_X12_limit_l31_pr  {k146 : Int → Int → Int → ga_D → ga_S} (hk146 : ∀ (x1 x2 x4 : Int) (D : ga_D), ga_pr D (k146 x1 x2 x4 D)) : ∀ (n : Nat) (x1 x2 x4 x5 : Int) (D : ga_D), ga_pr D (g_X12_limit_l31 n x1 x2 x4 x5 D k146) := by
  intro n
  induction n with
  | zero => intro x1 x2 x4 x5 D; exact pr_none
  | succ n ih =>
    intro x1 x2 x4 x5 D
    show ga_pr D (ga_ck (0 ≤ aw_w32 (x4 + 1) ∧ aw_w32 (x4 + 1) < 61) (if D 4813 (aw_w32 (x4 + 1)) ≤ x5 then (k146 x1 x2 x4 D) else (ga_ck (0 ≤ x4 ∧ x4 < 60) (if D 4812 x4 ≠ x1 then (k146 x1 x2 x4 D) else (ga_ck (0 ≤ x5 ∧ x5 < 1500) (if D 4815 x5 ≠ 2 then (g_X12_limit_j94 x1 x2 x4 x5 D (fun x1 x2 x4 x5 D31 => g_X12_limit_l31 n x1 x2 x4 x5 D31 k146)) else (ga_ck (0 ≤ x5 ∧ x5 < 1500) (if D 4817 x5 ≠ 1 then (g_X12_limit_j94 x1 x2 x4 x5 D (fun x1 x2 x4 x5 D31 => g_X12_limit_l31 n x1 x2 x4 x5 D31 k146)) else (g_X12_limit_j95 x1 x2 x4 x5 1 D (fun x1 x2 x4 x5 D31 => g_X12_limit_l31 n x1 x2 x4 x5 D31 k146))))))))))
    refine pr_ck (fun ha44 => ?_)
    refine pr_ite (fun c45 => ?_) (fun c45 => ?_)
    exact hk146 _ _ _ _ 
    refine pr_ck (fun ha57 => ?_)
    refine pr_ite (fun c59 => ?_) (fun c59 => ?_)
    exact hk146 _ _ _ _ 
    refine pr_ck (fun ha71 => ?_)
    refine pr_ite (fun c73 => ?_) (fun c73 => ?_)
    refine g_X12_limit_j94_pr (fun x1 x2 x4 x5 D31 => ?_) _ _ _ _ _ 
    exact ih _ _ _ _ _ 
    refine pr_ck (fun ha85 => ?_)
    refine pr_ite (fun c87 => ?_) (fun c87 => ?_)
    refine g_X12_limit_j94_pr (fun x1 x2 x4 x5 D31 => ?_) _ _ _ _ _ 
    exact ih _ _ _ _ _ 
    refine g_X12_limit_j95_pr (fun x1 x2 x4 x5 D31 => ?_) _ _ _ _ _ _ 
    exact ih _ _ _ _ _ 
theorem g_X12_limit_l10_pr  {k152 : Int → ga_D → ga_S} (hk152 : ∀ (x2 : Int) (D : ga_D), ga_pr D (k152 x2 D)) : ∀ (n : Nat) (x1 x2 x4 : Int) (D : ga_D), ga_pr D (g_X12_limit_l10 n x1 x2 x4 D k152) := by
  intro n
  induction n with
  | zero => intro x1 x2 x4 D; exact pr_none
  | succ n ih =>
    intro x1 x2 x4 D
    show ga_pr D (ga_bind (g_X12_ruleEnd D) (fun r13 D13 => if r13 ≤ x4 then (k152 x2 D13) else (ga_ck (0 ≤ x4 ∧ x4 < 61) (ga_let (D13 4813 x4) (fun v29 => g_X12_limit_l31 aw_fu x1 x2 x4 v29 D13 (fun x1 x2 x4 D146 => ga_let (aw_w32 (x4 + 1)) (fun v146 => g_X12_limit_l10 n x1 x2 v146 D146 k152)))))))
    refine pr_bind (g_X12_ruleEnd_pr) (fun r13 D13 => ?_)
    refine pr_ite (fun c16 => ?_) (fun c16 => ?_)
    exact hk152 _ _ 
    refine pr_ck (fun ha28 => ?_)
    refine pr_let (fun v29 => ?_)
    refine g_X12_limit_l31_pr (fun x1 x2 x4 D146 => ?_) _ _ _ _ _ _ 
    refine pr_let (fun v146 => ?_)
    exact ih _ _ _ _ 
theorem g_X12_limit_pr {x1 : Int} {D : ga_D} : ga_pr D (g_X12_limit x1 D) := by
  unfold g_X12_limit
  refine pr_bind (g_X12_firstRule_pr) (fun r5 D5 => ?_)
  refine g_X12_limit_l10_pr (fun x2 D152 => ?_) _ _ _ _ _ 
  exact pr_some
theorem g_X12_isRule_pr {x1 : Int} {D : ga_D} : ga_pr D (g_X12_isRule x1 D) := by
  unfold g_X12_isRule
  refine pr_ite (fun c1 => ?_) (fun c1 => ?_)
  exact pr_some
  refine pr_ite (fun c12 => ?_) (fun c12 => ?_)
  exact pr_some
  exact pr_some
theorem g_X12_sum_l41_pr  {k77 : Int → Int → Int → Int → ga_D → ga_S} (hk77 : ∀ (x1 x2 x3 x4 : Int) (D : ga_D), ga_pr D (k77 x1 x2 x3 x4 D)) : ∀ (n : Nat) (x1 x2 x3 x4 : Int) (D : ga_D), ga_pr D (g_X12_sum_l41 n x1 x2 x3 x4 D k77) := by
  intro n
  induction n with
  | zero => intro x1 x2 x3 x4 D; exact pr_none
  | succ n ih =>
    intro x1 x2 x3 x4 D
    show ga_pr D (ga_ck (0 ≤ aw_w32 (x1 + 1) ∧ aw_w32 (x1 + 1) < 61) (if D 4813 (aw_w32 (x1 + 1)) ≤ x4 then (k77 x1 x2 x3 x4 D) else (ga_ck (0 ≤ x4 ∧ x4 < 1500) (if D 4815 x4 = 2 then (k77 x1 x2 x3 x4 D) else (ga_let (aw_w32 (x4 + 1)) (fun v71 => g_X12_sum_l41 n x1 x2 x3 v71 D k77))))))
    refine pr_ck (fun ha53 => ?_)
    refine pr_ite (fun c54 => ?_) (fun c54 => ?_)
    exact hk77 _ _ _ _ _ 
    refine pr_ck (fun ha66 => ?_)
    refine pr_ite (fun c68 => ?_) (fun c68 => ?_)
    exact hk77 _ _ _ _ _ 
    refine pr_let (fun v71 => ?_)
    exact ih _ _ _ _ _ 
theorem g_X12_sum_j108_pr  (x3 s0 s1 : Int) (D : ga_D) : ga_pr D (g_X12_sum_j108 x3 s0 s1 D) := by
  unfold g_X12_sum_j108
  refine pr_bind (g_X12_sumOf_pr) (fun r109 D109 => ?_)
  refine pr_ite (fun c119 => ?_) (fun c119 => ?_)
  exact pr_some
  exact pr_some
theorem g_X12_sum_j77_pr  (x1 x2 x3 x4 : Int) (D : ga_D) : ga_pr D (g_X12_sum_j77 x1 x2 x3 x4 D) := by
  unfold g_X12_sum_j77
  refine pr_ck (fun ha89 => ?_)
  refine pr_ite (fun c90 => ?_) (fun c90 => ?_)
  refine pr_ite (fun c100 => ?_) (fun c100 => ?_)
  refine g_X12_sum_j108_pr _ _ _ _ 
  refine g_X12_sum_j108_pr _ _ _ _ 
  exact pr_some
theorem g_X12_sum_pr {x1 x2 x3 : Int} {D : ga_D} : ga_pr D (g_X12_sum x1 x2 x3 D) := by
  unfold g_X12_sum
  refine pr_bind (g_X12_isRule_pr) (fun r2 D2 => ?_)
  refine pr_ite (fun c5 => ?_) (fun c5 => ?_)
  exact pr_some
  refine pr_ite (fun c9 => ?_) (fun c9 => ?_)
  exact pr_some
  refine pr_ite (fun c14 => ?_) (fun c14 => ?_)
  exact pr_some
  refine pr_ite (fun c19 => ?_) (fun c19 => ?_)
  exact pr_some
  refine pr_ite (fun c25 => ?_) (fun c25 => ?_)
  refine pr_ck (fun ha38 => ?_)
  refine pr_let (fun v39 => ?_)
  refine g_X12_sum_l41_pr (fun x1 x2 x3 x4 D77 => ?_) _ _ _ _ _ _ 
  refine g_X12_sum_j77_pr _ _ _ _ _ 
  exact pr_some
theorem g_X12_table_j37_pr  (D : ga_D) : ga_pr D (g_X12_table_j37 D) := by
  unfold g_X12_table_j37
  exact pr_some
theorem g_X12_table_pr {x1 x2 : Int} {D : ga_D} : ga_pr D (g_X12_table x1 x2 D) := by
  unfold g_X12_table
  refine pr_bind (g_X12_isRule_pr) (fun r2 D2 => ?_)
  refine pr_ite (fun c5 => ?_) (fun c5 => ?_)
  refine g_X12_table_j37_pr _ 
  refine pr_ite (fun c9 => ?_) (fun c9 => ?_)
  refine g_X12_table_j37_pr _ 
  refine pr_ck (fun ha23 => ?_)
  refine pr_ck (fun ha32 => ?_)
  refine pr_ite (fun c34 => ?_) (fun c34 => ?_)
  refine pr_ck (fun ha63 => ?_)
  refine pr_ck (fun ha66 => ?_)
  exact pr_some
  refine g_X12_table_j37_pr _ 
theorem g_X12_write_l4_pr  {k48 : Int → Int → Int → ga_D → ga_S} {k82 : Int → ga_D → ga_S} {k115 : ga_D → ga_S} (hk48 : ∀ (x1 x2 x3 : Int) (D : ga_D), ga_pr D (k48 x1 x2 x3 D)) (hk82 : ∀ (x3 : Int) (D : ga_D), ga_pr D (k82 x3 D)) (hk115 : ∀ (D : ga_D), ga_pr D (k115 D)) : ∀ (n : Nat) (x1 x2 x3 : Int) (D : ga_D), ga_pr D (g_X12_write_l4 n x1 x2 x3 D k48 k82 k115) := by
  intro n
  induction n with
  | zero => intro x1 x2 x3 D; exact pr_none
  | succ n ih =>
    intro x1 x2 x3 D
    show ga_pr D (if D 4790 6 ≤ x3 then (k115 D) else (if x1 < 0 then (k115 D) else (ga_ck (0 ≤ x3 ∧ x3 < 1500) (ga_ck (0 ≤ x3 ∧ x3 < 1500) (ga_let (aw_w32 ((D 4793 x3) - (D 4792 x3))) (fun v38 => if aw_w32 (x2 + v38) ≤ x1 then (if x1 ≠ aw_w32 (x2 + v38) then (ga_let (aw_w32 (x2 + (aw_w32 (v38 + 1)))) (fun v108 => ga_let (aw_w32 (x3 + 1)) (fun v109 => g_X12_write_l4 n x1 v108 v109 D k48 k82 k115))) else (k82 x3 D)) else (k48 x1 x2 x3 D)))))))
    refine pr_ite (fun c12 => ?_) (fun c12 => ?_)
    exact hk115 _ 
    refine pr_ite (fun c16 => ?_) (fun c16 => ?_)
    exact hk115 _ 
    refine pr_ck (fun ha27 => ?_)
    refine pr_ck (fun ha36 => ?_)
    refine pr_let (fun v38 => ?_)
    refine pr_ite (fun c45 => ?_) (fun c45 => ?_)
    refine pr_ite (fun c79 => ?_) (fun c79 => ?_)
    refine pr_let (fun v108 => ?_)
    refine pr_let (fun v109 => ?_)
    exact ih _ _ _ _ 
    exact hk82 _ _ 
    exact hk48 _ _ _ _ 
theorem g_X12_write_pr {x1 : Int} {D : ga_D} : ga_pr D (g_X12_write x1 D) := by
  unfold g_X12_write
  refine g_X12_write_l4_pr (fun x1 x2 x3 D48 => ?_) (fun x3 D82 => ?_) (fun D115 => ?_) _ _ _ _ _ 
  refine pr_ck (fun ha63 => ?_)
  refine pr_ck (fun ha68 => ?_)
  exact pr_some
  refine pr_ite (fun c92 => ?_) (fun c92 => ?_)
  exact pr_some
  exact pr_some
  exact pr_some
