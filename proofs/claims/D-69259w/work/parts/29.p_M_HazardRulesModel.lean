theorem g_X51_part_pr {x1 x2 x4 : Int} {D : ga_D} : ga_pr D (g_X51_part x1 x2 x4 D) := by
  unfold g_X51_part
  refine pr_upd (ga_Pn K_5191 rfl) (fun D2 => ?_)
  refine pr_ite (fun c6 => ?_) (fun c6 => ?_)
  exact pr_some
  refine pr_ite (fun c12 => ?_) (fun c12 => ?_)
  exact pr_some
  refine pr_ite (fun c18 => ?_) (fun c18 => ?_)
  exact pr_some
  refine pr_ite (fun c25 => ?_) (fun c25 => ?_)
  exact pr_some
  refine pr_ite (fun c34 => ?_) (fun c34 => ?_)
  refine pr_ck (fun ha45 => ?_)
  refine pr_upd (ga_Pn K_5203 rfl) (fun D45 => ?_)
  refine pr_ck (fun ha53 => ?_)
  refine pr_upd (ga_Pn K_5201 rfl) (fun D53 => ?_)
  refine pr_ck (fun ha62 => ?_)
  refine pr_upd (ga_Pn K_5202 rfl) (fun D62 => ?_)
  exact pr_some
  exact pr_some
theorem g_X51_forget_l12_pr  {k31 : ga_D → ga_S} (hk31 : ∀ (D : ga_D), ga_pr D (k31 D)) : ∀ (n : Nat) (x1 : Int) (D : ga_D), ga_pr D (g_X51_forget_l12 n x1 D k31) := by
  intro n
  induction n with
  | zero => intro x1 D; exact pr_none
  | succ n ih =>
    intro x1 D
    show ga_pr D (if 60 ≤ x1 then (k31 D) else (ga_ck (0 ≤ x1 ∧ x1 < 60) (ga_let (ga_set D 5205 x1 0) (fun D24 => ga_let (aw_w32 (x1 + 1)) (fun v25 => g_X51_forget_l12 n v25 D24 k31)))))
    refine pr_ite (fun c15 => ?_) (fun c15 => ?_)
    exact hk31 _ 
    refine pr_ck (fun ha24 => ?_)
    refine pr_upd (ga_Pn K_5205 rfl) (fun D24 => ?_)
    refine pr_let (fun v25 => ?_)
    exact ih _ _ 
theorem g_X51_forget_pr {D : ga_D} : ga_pr D (g_X51_forget D) := by
  unfold g_X51_forget
  refine pr_upd (ga_Pn K_5191 rfl) (fun D2 => ?_)
  refine pr_upd (ga_Pn K_5191 rfl) (fun D7 => ?_)
  refine g_X51_forget_l12_pr (fun D31 => ?_) _ _ _ 
  exact pr_some
theorem g_X51_edition_l10_pr  {k45 : Int → ga_D → ga_S} (hk45 : ∀ (x3 : Int) (D : ga_D), ga_pr D (k45 x3 D)) : ∀ (n : Nat) (x1 x3 x4 : Int) (D : ga_D), ga_pr D (g_X51_edition_l10 n x1 x3 x4 D k45) := by
  intro n
  induction n with
  | zero => intro x1 x3 x4 D; exact pr_none
  | succ n ih =>
    intro x1 x3 x4 D
    show ga_pr D (if D 5191 13 ≤ x4 then (k45 x3 D) else (ga_ck (0 ≤ x4 ∧ x4 < 1500) (if x1 < D 5200 x4 then (ga_let (aw_w32 (x4 + 1)) (fun v39 => g_X51_edition_l10 n x1 x3 v39 D k45)) else (ga_let (aw_w32 (x4 + 1)) (fun v39 => g_X51_edition_l10 n x1 x4 v39 D k45)))))
    refine pr_ite (fun c16 => ?_) (fun c16 => ?_)
    exact hk45 _ _ 
    refine pr_ck (fun ha25 => ?_)
    refine pr_ite (fun c29 => ?_) (fun c29 => ?_)
    refine pr_let (fun v39 => ?_)
    exact ih _ _ _ _ 
    refine pr_let (fun v39 => ?_)
    exact ih _ _ _ _ 
theorem g_X51_edition_pr {x1 : Int} {D : ga_D} : ga_pr D (g_X51_edition x1 D) := by
  unfold g_X51_edition
  refine pr_upd (ga_Pn K_5191 rfl) (fun D2 => ?_)
  refine g_X51_edition_l10_pr (fun x3 D45 => ?_) _ _ _ _ _ 
  exact pr_some
theorem g_X51_firstItem_pr {x1 : Int} {D : ga_D} : ga_pr D (g_X51_firstItem x1 D) := by
  unfold g_X51_firstItem
  refine pr_ck (fun ha5 => ?_)
  exact pr_some
theorem g_X51_wordOf_l8_pr  {k52 : Int → ga_D → ga_S} (hk52 : ∀ (x4 : Int) (D : ga_D), ga_pr D (k52 x4 D)) : ∀ (n : Nat) (x0 x1 x2 x3 x4 x6 : Int) (D : ga_D), ga_pr D (g_X51_wordOf_l8 n x0 x1 x2 x3 x4 x6 D k52) := by
  intro n
  induction n with
  | zero => intro x0 x1 x2 x3 x4 x6 D; exact pr_none
  | succ n ih =>
    intro x0 x1 x2 x3 x4 x6 D
    show ga_pr D (ga_ck ((ga_K x2).1 = 1000) (ga_ck (0 ≤ x3 ∧ x3 < (ga_K x2).2) (if D x2 x3 ≤ x6 then (k52 x4 D) else (ga_ck (0 ≤ x3 ∧ x3 < (ga_K x2).2) (ga_ck ((ga_K x1).1 = 1000) (ga_ck (0 ≤ x3 ∧ x3 < (ga_K x1).2) (if 8 ≤ aw_w32 ((D x2 x3) - (D x1 x3)) then (k52 x4 D) else (ga_ck ((ga_K x0).1 = 1002) (ga_ck (0 ≤ x6 ∧ x6 < (ga_K x0).2) (ga_let (aw_w64 ((aw_w64 (256 * x4)) + (aw_and (D x0 x6) 255))) (fun v44 => ga_let (aw_w32 (x6 + 1)) (fun v46 => g_X51_wordOf_l8 n x0 x1 x2 x3 v44 v46 D k52))))))))))))
    refine pr_ck (fun ha12_0 => ?_)
    refine pr_ck (fun ha12 => ?_)
    refine pr_ite (fun c13 => ?_) (fun c13 => ?_)
    exact hk52 _ _ 
    refine pr_ck (fun ha18 => ?_)
    refine pr_ck (fun ha21_0 => ?_)
    refine pr_ck (fun ha21 => ?_)
    refine pr_ite (fun c25 => ?_) (fun c25 => ?_)
    exact hk52 _ _ 
    refine pr_ck (fun ha37_0 => ?_)
    refine pr_ck (fun ha37 => ?_)
    refine pr_let (fun v44 => ?_)
    refine pr_let (fun v46 => ?_)
    exact ih _ _ _ _ _ _ _ 
theorem g_X51_wordOf_pr {x0 x1 x2 x3 : Int} {D : ga_D} : ga_pr D (g_X51_wordOf x0 x1 x2 x3 D) := by
  unfold g_X51_wordOf
  refine pr_ck (fun ha5_0 => ?_)
  refine pr_ck (fun ha5 => ?_)
  refine pr_let (fun v6 => ?_)
  refine g_X51_wordOf_l8_pr (fun x4 D52 => ?_) _ _ _ _ _ _ _ _ 
  exact pr_some
theorem g_X51_has_pr {x1 x2 : Int} {D : ga_D} : ga_pr D (g_X51_has x1 x2 D) := by
  unfold g_X51_has
  refine pr_ite (fun c5 => ?_) (fun c5 => ?_)
  exact pr_some
  refine pr_bind (g_X51_wordOf_pr) (fun r21 D21 => ?_)
  refine pr_ite (fun c26 => ?_) (fun c26 => ?_)
  exact pr_some
  exact pr_some
theorem g_X51_numberOf_l26_pr  {k83 : Int → ga_D → ga_S} (hk83 : ∀ (x5 : Int) (D : ga_D), ga_pr D (k83 x5 D)) : ∀ (n : Nat) (x0 x1 x3 x4 x5 x6 : Int) (D : ga_D), ga_pr D (g_X51_numberOf_l26 n x0 x1 x3 x4 x5 x6 D k83) := by
  intro n
  induction n with
  | zero => intro x0 x1 x3 x4 x5 x6 D; exact pr_none
  | succ n ih =>
    intro x0 x1 x3 x4 x5 x6 D
    show ga_pr D (if x4 ≤ x6 then (k83 x5 D) else (if x5 < 0 then (k83 x5 D) else (ga_ck ((ga_K x1).1 = 1000) (ga_ck (0 ≤ x3 ∧ x3 < (ga_K x1).2) (ga_ck ((ga_K x0).1 = 1002) (ga_ck (0 ≤ aw_w32 ((D x1 x3) + x6) ∧ aw_w32 ((D x1 x3) + x6) < (ga_K x0).2) (ga_let (aw_w32 ((D x0 (aw_w32 ((D x1 x3) + x6))) - 48)) (fun v49 => if v49 < 0 then (ga_let (aw_w32 (x6 + 1)) (fun v77 => g_X51_numberOf_l26 n x0 x1 x3 x4 (-1) v77 D k83)) else (if v49 ≤ 9 then (ga_let (aw_w32 ((aw_w32 (10 * x5)) + v49)) (fun v75 => ga_let (aw_w32 (x6 + 1)) (fun v77 => g_X51_numberOf_l26 n x0 x1 x3 x4 v75 v77 D k83))) else (ga_let (aw_w32 (x6 + 1)) (fun v77 => g_X51_numberOf_l26 n x0 x1 x3 x4 (-1) v77 D k83)))))))))))
    refine pr_ite (fun c30 => ?_) (fun c30 => ?_)
    exact hk83 _ _ 
    refine pr_ite (fun c35 => ?_) (fun c35 => ?_)
    exact hk83 _ _ 
    refine pr_ck (fun ha41_0 => ?_)
    refine pr_ck (fun ha41 => ?_)
    refine pr_ck (fun ha45_1 => ?_)
    refine pr_ck (fun ha45 => ?_)
    refine pr_let (fun v49 => ?_)
    refine pr_ite (fun c53 => ?_) (fun c53 => ?_)
    refine pr_let (fun v77 => ?_)
    exact ih _ _ _ _ _ _ _ 
    refine pr_ite (fun c60 => ?_) (fun c60 => ?_)
    refine pr_let (fun v75 => ?_)
    refine pr_let (fun v77 => ?_)
    exact ih _ _ _ _ _ _ _ 
    refine pr_let (fun v77 => ?_)
    exact ih _ _ _ _ _ _ _ 
theorem g_X51_numberOf_pr {x0 x1 x2 x3 : Int} {D : ga_D} : ga_pr D (g_X51_numberOf x0 x1 x2 x3 D) := by
  unfold g_X51_numberOf
  refine pr_ck (fun ha2_0 => ?_)
  refine pr_ck (fun ha2 => ?_)
  refine pr_ck (fun ha5_1 => ?_)
  refine pr_ck (fun ha5 => ?_)
  refine pr_let (fun v7 => ?_)
  refine pr_ite (fun c13 => ?_) (fun c13 => ?_)
  refine g_X51_numberOf_l26_pr (fun x5 D83 => ?_) _ _ _ _ _ _ _ _ 
  exact pr_some
  refine g_X51_numberOf_l26_pr (fun x5 D83 => ?_) _ _ _ _ _ _ _ _ 
  exact pr_some
theorem g_X51_number_pr {x1 : Int} {D : ga_D} : ga_pr D (g_X51_number x1 D) := by
  unfold g_X51_number
  refine pr_bind (g_X51_numberOf_pr) (fun r13 D13 => ?_)
  exact pr_some
theorem g_X51_nextItem_l2_pr  {k30 : Int → ga_D → ga_S} (hk30 : ∀ (x2 : Int) (D : ga_D), ga_pr D (k30 x2 D)) : ∀ (n : Nat) (x2 : Int) (D : ga_D), ga_pr D (g_X51_nextItem_l2 n x2 D k30) := by
  intro n
  induction n with
  | zero => intro x2 D; exact pr_none
  | succ n ih =>
    intro x2 D
    show ga_pr D (ga_bind (g_X51_has x2 23162468 D) (fun r7 D7 => if r7 ≠ 0 then (k30 x2 D7) else (ga_bind (g_X51_has x2 23424612 D7) (fun r18 D18 => if r18 ≠ 0 then (k30 x2 D18) else (ga_let (aw_w32 (x2 + 1)) (fun v24 => g_X51_nextItem_l2 n v24 D18 k30))))))
    refine pr_bind (g_X51_has_pr) (fun r7 D7 => ?_)
    refine pr_ite (fun c10 => ?_) (fun c10 => ?_)
    exact hk30 _ _ 
    refine pr_bind (g_X51_has_pr) (fun r18 D18 => ?_)
    refine pr_ite (fun c21 => ?_) (fun c21 => ?_)
    exact hk30 _ _ 
    refine pr_let (fun v24 => ?_)
    exact ih _ _ 
theorem g_X51_nextItem_j30_pr  (x2 : Int) (D : ga_D) : ga_pr D (g_X51_nextItem_j30 x2 D) := by
  unfold g_X51_nextItem_j30
  refine pr_bind (g_X51_has_pr) (fun r35 D35 => ?_)
  refine pr_ite (fun c38 => ?_) (fun c38 => ?_)
  exact pr_some
  exact pr_some
theorem g_X51_nextItem_pr {x1 : Int} {D : ga_D} : ga_pr D (g_X51_nextItem x1 D) := by
  unfold g_X51_nextItem
  refine g_X51_nextItem_l2_pr (fun x2 D30 => ?_) _ _ _ 
  refine g_X51_nextItem_j30_pr _ _ 
theorem g_X51_hasTests_j61_pr  {k12 : Int → Int → Int → Int → ga_D → ga_S} (hk12 : ∀ (x2 x3 x4 x5 : Int) (D : ga_D), ga_pr D (k12 x2 x3 x4 x5 D)) (x2 x3 x4 x5 : Int) (D : ga_D) : ga_pr D (g_X51_hasTests_j61 x2 x3 x4 x5 D k12) := by
  unfold g_X51_hasTests_j61
  refine pr_bind (g_X51_nextItem_pr) (fun r64 D64 => ?_)
  exact hk12 _ _ _ _ _ 
theorem g_X51_hasTests_j59_pr  {k12 : Int → Int → Int → Int → ga_D → ga_S} (hk12 : ∀ (x2 x3 x4 x5 : Int) (D : ga_D), ga_pr D (k12 x2 x3 x4 x5 D)) (x2 x3 x5 s0 : Int) (D : ga_D) : ga_pr D (g_X51_hasTests_j59 x2 x3 x5 s0 D k12) := by
  unfold g_X51_hasTests_j59
  refine g_X51_hasTests_j61_pr (fun x2 x3 x4 x5 D12 => ?_) _ _ _ _ _ 
  exact hk12 _ _ _ _ _ 
theorem g_X51_hasTests_j58_pr  {k12 : Int → Int → Int → Int → ga_D → ga_S} (hk12 : ∀ (x2 x3 x4 x5 : Int) (D : ga_D), ga_pr D (k12 x2 x3 x4 x5 D)) (x2 x3 x5 : Int) (D : ga_D) : ga_pr D (g_X51_hasTests_j58 x2 x3 x5 D k12) := by
  unfold g_X51_hasTests_j58
  refine g_X51_hasTests_j59_pr (fun x2 x3 x4 x5 D12 => ?_) _ _ _ _ _ 
  exact hk12 _ _ _ _ _ 
theorem g_X51_hasTests_l12_pr  {k72 : Int → Int → Int → ga_D → ga_S} (hk72 : ∀ (x2 x3 x4 : Int) (D : ga_D), ga_pr D (k72 x2 x3 x4 D)) : ∀ (n : Nat) (x2 x3 x4 x5 : Int) (D : ga_D), ga_pr D (g_X51_hasTests_l12 n x2 x3 x4 x5 D k72) := by
  intro n
  induction n with
  | zero => intro x2 x3 x4 x5 D; exact pr_none
  | succ n ih =>
    intro x2 x3 x4 x5 D
    show ga_pr D (if x5 = (-1) then (k72 x2 x3 x4 D) else (ga_bind (g_X51_has x5 6247773044 D) (fun r24 D24 => if r24 = 0 then (g_X51_hasTests_j61 x2 x3 x4 x5 D24 (fun x2 x3 x4 x5 D12 => g_X51_hasTests_l12 n x2 x3 x4 x5 D12 k72)) else (if x4 = 0 then (g_X51_hasTests_j58 x2 1 x5 D24 (fun x2 x3 x4 x5 D12 => g_X51_hasTests_l12 n x2 x3 x4 x5 D12 k72)) else (ga_bind (g_X51_number (aw_w32 (x5 + 1)) D24) (fun r46 D46 => ga_ck (0 ≤ r46 ∧ r46 < 8) (if D46 5204 r46 = (-1) then (g_X51_hasTests_j58 x2 1 x5 D46 (fun x2 x3 x4 x5 D12 => g_X51_hasTests_l12 n x2 x3 x4 x5 D12 k72)) else (g_X51_hasTests_j59 x2 1 x5 1 D46 (fun x2 x3 x4 x5 D12 => g_X51_hasTests_l12 n x2 x3 x4 x5 D12 k72)))))))))
    refine pr_ite (fun c15 => ?_) (fun c15 => ?_)
    exact hk72 _ _ _ _ 
    refine pr_bind (g_X51_has_pr) (fun r24 D24 => ?_)
    refine pr_ite (fun c27 => ?_) (fun c27 => ?_)
    refine g_X51_hasTests_j61_pr (fun x2 x3 x4 x5 D12 => ?_) _ _ _ _ _ 
    exact ih _ _ _ _ _ 
    refine pr_ite (fun c34 => ?_) (fun c34 => ?_)
    refine g_X51_hasTests_j58_pr (fun x2 x3 x4 x5 D12 => ?_) _ _ _ _ 
    exact ih _ _ _ _ _ 
    refine pr_bind (g_X51_number_pr) (fun r46 D46 => ?_)
    refine pr_ck (fun ha49 => ?_)
    refine pr_ite (fun c51 => ?_) (fun c51 => ?_)
    refine g_X51_hasTests_j58_pr (fun x2 x3 x4 x5 D12 => ?_) _ _ _ _ 
    exact ih _ _ _ _ _ 
    refine g_X51_hasTests_j59_pr (fun x2 x3 x4 x5 D12 => ?_) _ _ _ _ _ 
    exact ih _ _ _ _ _ 
theorem g_X51_hasTests_pr {x1 x2 : Int} {D : ga_D} : ga_pr D (g_X51_hasTests x1 x2 D) := by
  unfold g_X51_hasTests
  refine pr_bind (g_X51_firstItem_pr) (fun r7 D7 => ?_)
  refine g_X51_hasTests_l12_pr (fun x2 x3 x4 D72 => ?_) _ _ _ _ _ _ 
  refine pr_ite (fun c73 => ?_) (fun c73 => ?_)
  exact pr_some
  refine pr_ite (fun c78 => ?_) (fun c78 => ?_)
  exact pr_some
  refine pr_ite (fun c82 => ?_) (fun c82 => ?_)
  exact pr_some
  exact pr_some
theorem g_X51_classOf_pr {x1 : Int} {D : ga_D} : ga_pr D (g_X51_classOf x1 D) := by
  unfold g_X51_classOf
  refine pr_ck (fun ha6 => ?_)
  refine pr_bind (g_X51_number_pr) (fun r9 D9 => ?_)
  exact pr_some
theorem g_X51_isPassed_l15_pr  {k76 : Int → ga_D → ga_S} (hk76 : ∀ (x2 : Int) (D : ga_D), ga_pr D (k76 x2 D)) : ∀ (n : Nat) (x1 x2 x3 : Int) (D : ga_D), ga_pr D (g_X51_isPassed_l15 n x1 x2 x3 D k76) := by
  intro n
  induction n with
  | zero => intro x1 x2 x3 D; exact pr_none
  | succ n ih =>
    intro x1 x2 x3 D
    show ga_pr D (if D 5191 11 ≤ x3 then (k76 x2 D) else (if x2 ≠ 0 then (ga_let (aw_w32 (x3 + 1)) (fun v70 => g_X51_isPassed_l15 n x1 1 v70 D k76)) else (ga_ck (0 ≤ x3 ∧ x3 < 60) (ga_ck (0 ≤ x1 ∧ x1 < 60) (if D 5199 x3 ≠ D 5199 x1 then (ga_let (aw_w32 (x3 + 1)) (fun v70 => g_X51_isPassed_l15 n x1 0 v70 D k76)) else (ga_bind (g_X51_classOf x3 D) (fun r44 D44 => ga_bind (g_X51_classOf x1 D44) (fun r49 D49 => if r44 ≠ r49 then (ga_let (aw_w32 (x3 + 1)) (fun v70 => g_X51_isPassed_l15 n x1 0 v70 D49 k76)) else (ga_bind (g_X51_hasTests x3 1 D49) (fun r58 D58 => if r58 = 0 then (ga_let (aw_w32 (x3 + 1)) (fun v70 => g_X51_isPassed_l15 n x1 0 v70 D58 k76)) else (ga_let (aw_w32 (x3 + 1)) (fun v70 => g_X51_isPassed_l15 n x1 1 v70 D58 k76))))))))))))
    refine pr_ite (fun c20 => ?_) (fun c20 => ?_)
    exact hk76 _ _ 
    refine pr_ite (fun c24 => ?_) (fun c24 => ?_)
    refine pr_let (fun v70 => ?_)
    exact ih _ _ _ _ 
    refine pr_ck (fun ha32 => ?_)
    refine pr_ck (fun ha38 => ?_)
    refine pr_ite (fun c39 => ?_) (fun c39 => ?_)
    refine pr_let (fun v70 => ?_)
    exact ih _ _ _ _ 
    refine pr_bind (g_X51_classOf_pr) (fun r44 D44 => ?_)
    refine pr_bind (g_X51_classOf_pr) (fun r49 D49 => ?_)
    refine pr_ite (fun c52 => ?_) (fun c52 => ?_)
    refine pr_let (fun v70 => ?_)
    exact ih _ _ _ _ 
    refine pr_bind (g_X51_hasTests_pr) (fun r58 D58 => ?_)
    refine pr_ite (fun c61 => ?_) (fun c61 => ?_)
    refine pr_let (fun v70 => ?_)
    exact ih _ _ _ _ 
    refine pr_let (fun v70 => ?_)
    exact ih _ _ _ _ 
theorem g_X51_isPassed_pr {x1 : Int} {D : ga_D} : ga_pr D (g_X51_isPassed x1 D) := by
  unfold g_X51_isPassed
  refine pr_bind (g_X51_hasTests_pr) (fun r3 D3 => ?_)
  refine pr_ite (fun c6 => ?_) (fun c6 => ?_)
  refine g_X51_isPassed_l15_pr (fun x2 D76 => ?_) _ _ _ _ _ 
  refine pr_ck (fun hr77 => ?_)
  exact pr_some
  exact pr_some
theorem g_X51_stateOfTest_j49_pr  (x1 s0 : Int) (D : ga_D) : ga_pr D (g_X51_stateOfTest_j49 x1 s0 D) := by
  unfold g_X51_stateOfTest_j49
  refine pr_bind (g_X51_has_pr) (fun r56 D56 => ?_)
  refine pr_ite (fun c59 => ?_) (fun c59 => ?_)
  exact pr_some
  exact pr_some
theorem g_X51_stateOfTest_pr {x1 : Int} {D : ga_D} : ga_pr D (g_X51_stateOfTest x1 D) := by
  unfold g_X51_stateOfTest
  refine pr_bind (g_X51_number_pr) (fun r4 D4 => ?_)
  refine pr_ck (fun ha13 => ?_)
  refine pr_ite (fun c15 => ?_) (fun c15 => ?_)
  refine pr_ck (fun ha33 => ?_)
  refine pr_bind (g_X51_number_pr) (fun r38 D38 => ?_)
  refine pr_ite (fun c41 => ?_) (fun c41 => ?_)
  refine g_X51_stateOfTest_j49_pr _ _ _ 
  refine g_X51_stateOfTest_j49_pr _ _ _ 
  refine pr_upd (ga_Pn K_5191 rfl) (fun D23 => ?_)
  exact pr_some
theorem g_X51_stateOfHolds_l14_pr  {k91 : Int → Int → ga_D → ga_S} (hk91 : ∀ (x3 x4 : Int) (D : ga_D), ga_pr D (k91 x3 x4 D)) : ∀ (n : Nat) (x2 x3 x4 x5 : Int) (D : ga_D), ga_pr D (g_X51_stateOfHolds_l14 n x2 x3 x4 x5 D k91) := by
  intro n
  induction n with
  | zero => intro x2 x3 x4 x5 D; exact pr_none
  | succ n ih =>
    intro x2 x3 x4 x5 D
    show ga_pr D (if x2 ≤ x5 then (k91 x3 x4 D) else (ga_ck (0 ≤ x5 ∧ x5 < 60) (ga_ck (0 ≤ x2 ∧ x2 < 60) (if D 5199 x5 ≠ D 5199 x2 then (ga_let (aw_w32 (x5 + 1)) (fun v85 => g_X51_stateOfHolds_l14 n x2 x3 x4 v85 D k91)) else (ga_bind (g_X51_classOf x5 D) (fun r39 D39 => if r39 ≠ x3 then (ga_let (aw_w32 (x5 + 1)) (fun v85 => g_X51_stateOfHolds_l14 n x2 x3 x4 v85 D39 k91)) else (ga_ck (0 ≤ x5 ∧ x5 < 60) (if D39 5205 x5 ≠ 1 then (ga_ck (0 ≤ x5 ∧ x5 < 60) (if D39 5205 x5 ≠ 2 then (ga_let (aw_w32 (x5 + 1)) (fun v85 => g_X51_stateOfHolds_l14 n x2 x3 x4 v85 D39 k91)) else (if x4 ≠ 0 then (ga_let (aw_w32 (x5 + 1)) (fun v85 => g_X51_stateOfHolds_l14 n x2 x3 x4 v85 D39 k91)) else (ga_let (aw_w32 (x5 + 1)) (fun v85 => g_X51_stateOfHolds_l14 n x2 x3 2 v85 D39 k91))))) else (ga_let (aw_w32 (x5 + 1)) (fun v85 => g_X51_stateOfHolds_l14 n x2 x3 1 v85 D39 k91))))))))))
    refine pr_ite (fun c17 => ?_) (fun c17 => ?_)
    exact hk91 _ _ _ 
    refine pr_ck (fun ha26 => ?_)
    refine pr_ck (fun ha32 => ?_)
    refine pr_ite (fun c33 => ?_) (fun c33 => ?_)
    refine pr_let (fun v85 => ?_)
    exact ih _ _ _ _ _ 
    refine pr_bind (g_X51_classOf_pr) (fun r39 D39 => ?_)
    refine pr_ite (fun c43 => ?_) (fun c43 => ?_)
    refine pr_let (fun v85 => ?_)
    exact ih _ _ _ _ _ 
    refine pr_ck (fun ha52 => ?_)
    refine pr_ite (fun c54 => ?_) (fun c54 => ?_)
    refine pr_ck (fun ha67 => ?_)
    refine pr_ite (fun c69 => ?_) (fun c69 => ?_)
    refine pr_let (fun v85 => ?_)
    exact ih _ _ _ _ _ 
    refine pr_ite (fun c74 => ?_) (fun c74 => ?_)
    refine pr_let (fun v85 => ?_)
    exact ih _ _ _ _ _ 
    refine pr_let (fun v85 => ?_)
    exact ih _ _ _ _ _ 
    refine pr_let (fun v85 => ?_)
    exact ih _ _ _ _ _ 
theorem g_X51_stateOfHolds_pr {x1 x2 : Int} {D : ga_D} : ga_pr D (g_X51_stateOfHolds x1 x2 D) := by
  unfold g_X51_stateOfHolds
  refine pr_bind (g_X51_number_pr) (fun r4 D4 => ?_)
  refine g_X51_stateOfHolds_l14_pr (fun x3 x4 D91 => ?_) _ _ _ _ _ _ 
  refine pr_upd (ga_Pn K_5191 rfl) (fun D97 => ?_)
  exact pr_some
theorem g_X51_add_j264_pr  {k15 : Int → Int → Int → ga_D → ga_S} (hk15 : ∀ (x2 x3 x4 : Int) (D : ga_D), ga_pr D (k15 x2 x3 x4 D)) (x2 x3 x4 x5 x13 s0 : Int) (D : ga_D) : ga_pr D (g_X51_add_j264 x2 x3 x4 x5 x13 s0 D k15) := by
  unfold g_X51_add_j264
  refine pr_ite (fun c266 => ?_) (fun c266 => ?_)
  refine pr_upd (ga_Pn K_5191 rfl) (fun D278 => ?_)
  exact hk15 _ _ _ _ 
  refine pr_upd (ga_Pn K_5191 rfl) (fun D278 => ?_)
  exact hk15 _ _ _ _ 
theorem g_X51_add_j230_pr  {k15 : Int → Int → Int → ga_D → ga_S} (hk15 : ∀ (x2 x3 x4 : Int) (D : ga_D), ga_pr D (k15 x2 x3 x4 D)) (x2 x3 x4 x5 x6 x7 x9 s0 : Int) (D : ga_D) : ga_pr D (g_X51_add_j230 x2 x3 x4 x5 x6 x7 x9 s0 D k15) := by
  unfold g_X51_add_j230
  refine pr_ck (fun hz241 => ?_)
  refine pr_let (fun v242 => ?_)
  refine pr_ite (fun c251 => ?_) (fun c251 => ?_)
  refine g_X51_add_j264_pr (fun x2 x3 x4 D15 => ?_) _ _ _ _ _ _ _ 
  exact hk15 _ _ _ _ 
  refine pr_ite (fun c257 => ?_) (fun c257 => ?_)
  refine g_X51_add_j264_pr (fun x2 x3 x4 D15 => ?_) _ _ _ _ _ _ _ 
  exact hk15 _ _ _ _ 
  refine pr_upd (ga_Pn K_5191 rfl) (fun D278 => ?_)
  exact hk15 _ _ _ _ 
theorem g_X51_add_j213_pr  {k15 : Int → Int → Int → ga_D → ga_S} (hk15 : ∀ (x2 x3 x4 : Int) (D : ga_D), ga_pr D (k15 x2 x3 x4 D)) (x2 x3 x4 x5 x6 x7 x8 x9 s0 : Int) (D : ga_D) : ga_pr D (g_X51_add_j213 x2 x3 x4 x5 x6 x7 x8 x9 s0 D k15) := by
  unfold g_X51_add_j213
  refine pr_ite (fun c221 => ?_) (fun c221 => ?_)
  refine g_X51_add_j230_pr (fun x2 x3 x4 D15 => ?_) _ _ _ _ _ _ _ _ _ 
  exact hk15 _ _ _ _ 
  refine g_X51_add_j230_pr (fun x2 x3 x4 D15 => ?_) _ _ _ _ _ _ _ _ _ 
  exact hk15 _ _ _ _ 
theorem g_X51_add_j179_pr  {k15 : Int → Int → Int → ga_D → ga_S} (hk15 : ∀ (x2 x3 x4 : Int) (D : ga_D), ga_pr D (k15 x2 x3 x4 D)) (x2 x3 x4 x5 x6 x7 x8 x9 x10 s0 : Int) (D : ga_D) : ga_pr D (g_X51_add_j179 x2 x3 x4 x5 x6 x7 x8 x9 x10 s0 D k15) := by
  unfold g_X51_add_j179
  refine pr_upd (ga_Pn K_5191 rfl) (fun D179 => ?_)
  refine pr_ite (fun c185 => ?_) (fun c185 => ?_)
  exact hk15 _ _ _ _ 
  refine pr_ite (fun c191 => ?_) (fun c191 => ?_)
  refine pr_ck (fun ha211 => ?_)
  refine g_X51_add_j213_pr (fun x2 x3 x4 D15 => ?_) _ _ _ _ _ _ _ _ _ _ 
  exact hk15 _ _ _ _ 
  refine pr_ck (fun ha200 => ?_)
  refine g_X51_add_j213_pr (fun x2 x3 x4 D15 => ?_) _ _ _ _ _ _ _ _ _ _ 
  exact hk15 _ _ _ _ 
theorem g_X51_add_j159_pr  {k15 : Int → Int → Int → ga_D → ga_S} (hk15 : ∀ (x2 x3 x4 : Int) (D : ga_D), ga_pr D (k15 x2 x3 x4 D)) (x2 x3 x4 x5 x6 x7 x8 x9 s0 : Int) (D : ga_D) : ga_pr D (g_X51_add_j159 x2 x3 x4 x5 x6 x7 x8 x9 s0 D k15) := by
  unfold g_X51_add_j159
  refine pr_ite (fun c167 => ?_) (fun c167 => ?_)
  refine g_X51_add_j179_pr (fun x2 x3 x4 D15 => ?_) _ _ _ _ _ _ _ _ _ _ _ 
  exact hk15 _ _ _ _ 
  refine g_X51_add_j179_pr (fun x2 x3 x4 D15 => ?_) _ _ _ _ _ _ _ _ _ _ _ 
  exact hk15 _ _ _ _ 
theorem g_X51_add_j129_pr  {k15 : Int → Int → Int → ga_D → ga_S} (hk15 : ∀ (x2 x3 x4 : Int) (D : ga_D), ga_pr D (k15 x2 x3 x4 D)) (x2 x3 x4 x5 x6 x7 x8 x9 : Int) (D : ga_D) : ga_pr D (g_X51_add_j129 x2 x3 x4 x5 x6 x7 x8 x9 D k15) := by
  unfold g_X51_add_j129
  refine pr_ck (fun ha135 => ?_)
  refine pr_ite (fun c136 => ?_) (fun c136 => ?_)
  refine pr_ite (fun c146 => ?_) (fun c146 => ?_)
  refine g_X51_add_j159_pr (fun x2 x3 x4 D15 => ?_) _ _ _ _ _ _ _ _ _ _ 
  exact hk15 _ _ _ _ 
  refine g_X51_add_j159_pr (fun x2 x3 x4 D15 => ?_) _ _ _ _ _ _ _ _ _ _ 
  exact hk15 _ _ _ _ 
  refine g_X51_add_j159_pr (fun x2 x3 x4 D15 => ?_) _ _ _ _ _ _ _ _ _ _ 
  exact hk15 _ _ _ _ 
theorem g_X51_add_j104_pr  {k15 : Int → Int → Int → ga_D → ga_S} (hk15 : ∀ (x2 x3 x4 : Int) (D : ga_D), ga_pr D (k15 x2 x3 x4 D)) (x2 x3 x4 x5 x6 x7 x8 x9 : Int) (D : ga_D) : ga_pr D (g_X51_add_j104 x2 x3 x4 x5 x6 x7 x8 x9 D k15) := by
  unfold g_X51_add_j104
  refine pr_bind (g_X51_has_pr) (fun r110 D110 => ?_)
  refine pr_ite (fun c113 => ?_) (fun c113 => ?_)
  refine g_X51_add_j129_pr (fun x2 x3 x4 D15 => ?_) _ _ _ _ _ _ _ _ _ 
  exact hk15 _ _ _ _ 
  refine pr_bind (g_X51_number_pr) (fun r121 D121 => ?_)
  refine pr_let (fun v126 => ?_)
  refine g_X51_add_j129_pr (fun x2 x3 x4 D15 => ?_) _ _ _ _ _ _ _ _ _ 
  exact hk15 _ _ _ _ 
theorem g_X51_add_j39_pr  {k15 : Int → Int → Int → ga_D → ga_S} (hk15 : ∀ (x2 x3 x4 : Int) (D : ga_D), ga_pr D (k15 x2 x3 x4 D)) (x2 x3 x4 : Int) (D : ga_D) : ga_pr D (g_X51_add_j39 x2 x3 x4 D k15) := by
  unfold g_X51_add_j39
  refine pr_bind (g_X51_has_pr) (fun r45 D45 => ?_)
  refine pr_bind (g_X51_number_pr) (fun r55 D55 => ?_)
  refine pr_bind (g_X51_number_pr) (fun r65 D65 => ?_)
  refine pr_let (fun v70 => ?_)
  refine pr_bind (g_X51_has_pr) (fun r85 D85 => ?_)
  refine pr_ite (fun c88 => ?_) (fun c88 => ?_)
  refine g_X51_add_j104_pr (fun x2 x3 x4 D15 => ?_) _ _ _ _ _ _ _ _ _ 
  exact hk15 _ _ _ _ 
  refine pr_bind (g_X51_number_pr) (fun r96 D96 => ?_)
  refine pr_let (fun v101 => ?_)
  refine g_X51_add_j104_pr (fun x2 x3 x4 D15 => ?_) _ _ _ _ _ _ _ _ _ 
  exact hk15 _ _ _ _ 
theorem g_X51_add_l15_pr  {k284 : Int → ga_D → ga_S} (hk284 : ∀ (x4 : Int) (D : ga_D), ga_pr D (k284 x4 D)) : ∀ (n : Nat) (x2 x3 x4 : Int) (D : ga_D), ga_pr D (g_X51_add_l15 n x2 x3 x4 D k284) := by
  intro n
  induction n with
  | zero => intro x2 x3 x4 D; exact pr_none
  | succ n ih =>
    intro x2 x3 x4 D
    show ga_pr D (ga_bind (g_X51_has x4 6181123443 D) (fun r21 D21 => if r21 ≠ 0 then (g_X51_add_j39 x2 x3 x4 D21 (fun x2 x3 x4 D15 => g_X51_add_l15 n x2 x3 x4 D15 k284)) else (ga_bind (g_X51_has x4 1569431909747 D21) (fun r33 D33 => if r33 = 0 then (k284 x4 D33) else (g_X51_add_j39 x2 x3 x4 D33 (fun x2 x3 x4 D15 => g_X51_add_l15 n x2 x3 x4 D15 k284))))))
    refine pr_bind (g_X51_has_pr) (fun r21 D21 => ?_)
    refine pr_ite (fun c24 => ?_) (fun c24 => ?_)
    refine g_X51_add_j39_pr (fun x2 x3 x4 D15 => ?_) _ _ _ _ 
    exact ih _ _ _ _ 
    refine pr_bind (g_X51_has_pr) (fun r33 D33 => ?_)
    refine pr_ite (fun c36 => ?_) (fun c36 => ?_)
    exact hk284 _ _ 
    refine g_X51_add_j39_pr (fun x2 x3 x4 D15 => ?_) _ _ _ _ 
    exact ih _ _ _ _ 
theorem g_X51_add_pr {x1 x2 x3 : Int} {D : ga_D} : ga_pr D (g_X51_add x1 x2 x3 D) := by
  unfold g_X51_add
  refine pr_upd (ga_Pn K_5191 rfl) (fun D2 => ?_)
  refine pr_upd (ga_Pn K_5191 rfl) (fun D7 => ?_)
  refine pr_let (fun v13 => ?_)
  refine g_X51_add_l15_pr (fun x4 D284 => ?_) _ _ _ _ _ 
  refine pr_upd (ga_Pn K_5191 rfl) (fun D287 => ?_)
  exact pr_some
theorem g_X51_stateOfSum_j44_pr  (x2 s0 s1 : Int) (D : ga_D) : ga_pr D (g_X51_stateOfSum_j44 x2 s0 s1 D) := by
  unfold g_X51_stateOfSum_j44
  refine pr_bind (g_X51_add_pr) (fun r45 D45 => ?_)
  refine pr_bind (g_X51_number_pr) (fun r55 D55 => ?_)
  refine pr_ite (fun c60 => ?_) (fun c60 => ?_)
  refine pr_ite (fun c88 => ?_) (fun c88 => ?_)
  exact pr_some
  exact pr_some
  refine pr_ite (fun c70 => ?_) (fun c70 => ?_)
  exact pr_some
  exact pr_some
theorem g_X51_stateOfSum_pr {x1 : Int} {D : ga_D} : ga_pr D (g_X51_stateOfSum x1 D) := by
  unfold g_X51_stateOfSum
  refine pr_bind (g_X51_add_pr) (fun r4 D4 => ?_)
  refine pr_ite (fun c12 => ?_) (fun c12 => ?_)
  refine pr_bind (g_X51_has_pr) (fun r25 D25 => ?_)
  refine pr_ite (fun c36 => ?_) (fun c36 => ?_)
  refine g_X51_stateOfSum_j44_pr _ _ _ _ 
  refine g_X51_stateOfSum_j44_pr _ _ _ _ 
  exact pr_some
theorem g_X51_holds_l4_pr  {k38 : Int → ga_D → ga_S} (hk38 : ∀ (x2 : Int) (D : ga_D), ga_pr D (k38 x2 D)) : ∀ (n : Nat) (x1 x2 x3 : Int) (D : ga_D), ga_pr D (g_X51_holds_l4 n x1 x2 x3 D k38) := by
  intro n
  induction n with
  | zero => intro x1 x2 x3 D; exact pr_none
  | succ n ih =>
    intro x1 x2 x3 D
    show ga_pr D (if D 5191 23 ≤ x3 then (k38 x2 D) else (if x2 ≠ 0 then (ga_let (aw_w32 (x3 + 1)) (fun v32 => g_X51_holds_l4 n x1 1 v32 D k38)) else (ga_ck (0 ≤ x3 ∧ x3 < 20) (if D 5207 x3 ≠ x1 then (ga_let (aw_w32 (x3 + 1)) (fun v32 => g_X51_holds_l4 n x1 0 v32 D k38)) else (ga_let (aw_w32 (x3 + 1)) (fun v32 => g_X51_holds_l4 n x1 1 v32 D k38))))))
    refine pr_ite (fun c9 => ?_) (fun c9 => ?_)
    exact hk38 _ _ 
    refine pr_ite (fun c13 => ?_) (fun c13 => ?_)
    refine pr_let (fun v32 => ?_)
    exact ih _ _ _ _ 
    refine pr_ck (fun ha21 => ?_)
    refine pr_ite (fun c23 => ?_) (fun c23 => ?_)
    refine pr_let (fun v32 => ?_)
    exact ih _ _ _ _ 
    refine pr_let (fun v32 => ?_)
    exact ih _ _ _ _ 
theorem g_X51_holds_pr {x1 : Int} {D : ga_D} : ga_pr D (g_X51_holds x1 D) := by
  unfold g_X51_holds
  refine g_X51_holds_l4_pr (fun x2 D38 => ?_) _ _ _ _ _ 
  refine pr_ck (fun hr39 => ?_)
  exact pr_some
theorem g_X51_judge_j132_pr  {k31 : Int → Int → Int → ga_D → ga_S} (hk31 : ∀ (x1 x2 x3 : Int) (D : ga_D), ga_pr D (k31 x1 x2 x3 D)) (x1 x3 s0 : Int) (D : ga_D) : ga_pr D (g_X51_judge_j132 x1 x3 s0 D k31) := by
  unfold g_X51_judge_j132
  refine pr_bind (g_X51_nextItem_pr) (fun r135 D135 => ?_)
  exact hk31 _ _ _ _ 
theorem g_X51_judge_j117_pr  {k31 : Int → Int → Int → ga_D → ga_S} (hk31 : ∀ (x1 x2 x3 : Int) (D : ga_D), ga_pr D (k31 x1 x2 x3 D)) (x1 x3 : Int) (D : ga_D) : ga_pr D (g_X51_judge_j117 x1 x3 D k31) := by
  unfold g_X51_judge_j117
  refine g_X51_judge_j132_pr (fun x1 x2 x3 D31 => ?_) _ _ _ _ 
  exact hk31 _ _ _ _ 
theorem g_X51_judge_j108_pr  {k31 : Int → Int → Int → ga_D → ga_S} (hk31 : ∀ (x1 x2 x3 : Int) (D : ga_D), ga_pr D (k31 x1 x2 x3 D)) (x1 x2 x3 x4 : Int) (D : ga_D) : ga_pr D (g_X51_judge_j108 x1 x2 x3 x4 D k31) := by
  unfold g_X51_judge_j108
  refine pr_ite (fun c110 => ?_) (fun c110 => ?_)
  refine g_X51_judge_j117_pr (fun x1 x2 x3 D31 => ?_) _ _ _ 
  exact hk31 _ _ _ _ 
  refine pr_ite (fun c114 => ?_) (fun c114 => ?_)
  refine pr_ite (fun c124 => ?_) (fun c124 => ?_)
  refine g_X51_judge_j132_pr (fun x1 x2 x3 D31 => ?_) _ _ _ _ 
  exact hk31 _ _ _ _ 
  refine g_X51_judge_j132_pr (fun x1 x2 x3 D31 => ?_) _ _ _ _ 
  exact hk31 _ _ _ _ 
  refine g_X51_judge_j117_pr (fun x1 x2 x3 D31 => ?_) _ _ _ 
  exact hk31 _ _ _ _ 
theorem g_X51_judge_j80_pr  {k31 : Int → Int → Int → ga_D → ga_S} (hk31 : ∀ (x1 x2 x3 : Int) (D : ga_D), ga_pr D (k31 x1 x2 x3 D)) (x1 x2 x3 s0 : Int) (D : ga_D) : ga_pr D (g_X51_judge_j80 x1 x2 x3 s0 D k31) := by
  unfold g_X51_judge_j80
  refine pr_ite (fun c85 => ?_) (fun c85 => ?_)
  refine g_X51_judge_j108_pr (fun x1 x2 x3 D31 => ?_) _ _ _ _ _ 
  exact hk31 _ _ _ _ 
  refine pr_ck (fun ha93 => ?_)
  refine pr_ite (fun c95 => ?_) (fun c95 => ?_)
  refine g_X51_judge_j108_pr (fun x1 x2 x3 D31 => ?_) _ _ _ _ _ 
  exact hk31 _ _ _ _ 
  refine pr_ck (fun ha107 => ?_)
  refine pr_upd (ga_Pn K_5206 rfl) (fun D107 => ?_)
  refine g_X51_judge_j108_pr (fun x1 x2 x3 D31 => ?_) _ _ _ _ _ 
  exact hk31 _ _ _ _ 
theorem g_X51_judge_l31_pr  {k142 : Int → Int → ga_D → ga_S} (hk142 : ∀ (x1 x2 : Int) (D : ga_D), ga_pr D (k142 x1 x2 D)) : ∀ (n : Nat) (x1 x2 x3 : Int) (D : ga_D), ga_pr D (g_X51_judge_l31 n x1 x2 x3 D k142) := by
  intro n
  induction n with
  | zero => intro x1 x2 x3 D; exact pr_none
  | succ n ih =>
    intro x1 x2 x3 D
    show ga_pr D (if x3 = (-1) then (k142 x1 x2 D) else (ga_bind (g_X51_has x3 6247773044 D) (fun r41 D41 => if r41 = 0 then (ga_bind (g_X51_has x3 1548057601139 D41) (fun r60 D60 => if r60 = 0 then (ga_bind (g_X51_stateOfSum x3 D60) (fun r77 D77 => g_X51_judge_j80 x1 x2 x3 r77 D77 (fun x1 x2 x3 D31 => g_X51_judge_l31 n x1 x2 x3 D31 k142))) else (ga_bind (g_X51_stateOfHolds x3 x1 D60) (fun r69 D69 => g_X51_judge_j80 x1 x2 x3 r69 D69 (fun x1 x2 x3 D31 => g_X51_judge_l31 n x1 x2 x3 D31 k142))))) else (ga_bind (g_X51_stateOfTest x3 D41) (fun r49 D49 => g_X51_judge_j80 x1 x2 x3 r49 D49 (fun x1 x2 x3 D31 => g_X51_judge_l31 n x1 x2 x3 D31 k142))))))
    refine pr_ite (fun c33 => ?_) (fun c33 => ?_)
    exact hk142 _ _ _ 
    refine pr_bind (g_X51_has_pr) (fun r41 D41 => ?_)
    refine pr_ite (fun c44 => ?_) (fun c44 => ?_)
    refine pr_bind (g_X51_has_pr) (fun r60 D60 => ?_)
    refine pr_ite (fun c63 => ?_) (fun c63 => ?_)
    refine pr_bind (g_X51_stateOfSum_pr) (fun r77 D77 => ?_)
    refine g_X51_judge_j80_pr (fun x1 x2 x3 D31 => ?_) _ _ _ _ _ 
    exact ih _ _ _ _ 
    refine pr_bind (g_X51_stateOfHolds_pr) (fun r69 D69 => ?_)
    refine g_X51_judge_j80_pr (fun x1 x2 x3 D31 => ?_) _ _ _ _ _ 
    exact ih _ _ _ _ 
    refine pr_bind (g_X51_stateOfTest_pr) (fun r49 D49 => ?_)
    refine g_X51_judge_j80_pr (fun x1 x2 x3 D31 => ?_) _ _ _ _ _ 
    exact ih _ _ _ _ 
theorem g_X51_judge_pr {x1 : Int} {D : ga_D} : ga_pr D (g_X51_judge x1 D) := by
  unfold g_X51_judge
  refine pr_bind (g_X51_isPassed_pr) (fun r2 D2 => ?_)
  refine pr_ite (fun c5 => ?_) (fun c5 => ?_)
  refine pr_ck (fun ha24 => ?_)
  refine pr_upd (ga_Pn K_5206 rfl) (fun D24 => ?_)
  refine pr_bind (g_X51_firstItem_pr) (fun r27 D27 => ?_)
  refine g_X51_judge_l31_pr (fun x1 x2 D142 => ?_) _ _ _ _ _ 
  refine pr_ck (fun ha148 => ?_)
  refine pr_upd (ga_Pn K_5205 rfl) (fun D148 => ?_)
  refine pr_ite (fun c151 => ?_) (fun c151 => ?_)
  exact pr_some
  refine pr_bind (g_X51_classOf_pr) (fun r157 D157 => ?_)
  refine pr_bind (g_X51_holds_pr) (fun r160 D160 => ?_)
  refine pr_ite (fun c163 => ?_) (fun c163 => ?_)
  exact pr_some
  refine pr_bind (g_X51_classOf_pr) (fun r176 D176 => ?_)
  refine pr_ck (fun ha179 => ?_)
  refine pr_upd (ga_Pn K_5207 rfl) (fun D179 => ?_)
  refine pr_upd (ga_Pn K_5191 rfl) (fun D187 => ?_)
  exact pr_some
  refine pr_ck (fun ha14 => ?_)
  refine pr_upd (ga_Pn K_5205 rfl) (fun D14 => ?_)
  exact pr_some
theorem g_X51_isOpen_pr {x1 : Int} {D : ga_D} : ga_pr D (g_X51_isOpen x1 D) := by
  unfold g_X51_isOpen
  refine pr_ck (fun ha5 => ?_)
  refine pr_ite (fun c7 => ?_) (fun c7 => ?_)
  exact pr_some
  refine pr_bind (g_X51_classOf_pr) (fun r13 D13 => ?_)
  refine pr_bind (g_X51_holds_pr) (fun r16 D16 => ?_)
  refine pr_ite (fun c19 => ?_) (fun c19 => ?_)
  exact pr_some
  exact pr_some
theorem g_X51_openRule_l4_pr  {k25 : Int → ga_D → ga_S} {k36 : ga_D → ga_S} (hk25 : ∀ (x3 : Int) (D : ga_D), ga_pr D (k25 x3 D)) (hk36 : ∀ (D : ga_D), ga_pr D (k36 D)) : ∀ (n : Nat) (x1 x2 x3 : Int) (D : ga_D), ga_pr D (g_X51_openRule_l4 n x1 x2 x3 D k25 k36) := by
  intro n
  induction n with
  | zero => intro x1 x2 x3 D; exact pr_none
  | succ n ih =>
    intro x1 x2 x3 D
    show ga_pr D (if D 5191 11 ≤ x3 then (k36 D) else (ga_bind (g_X51_isOpen x3 D) (fun r14 D14 => if r14 = 0 then (ga_let (aw_w32 (x3 + 1)) (fun v30 => g_X51_openRule_l4 n x1 x2 v30 D14 k25 k36)) else (if x2 ≠ x1 then (ga_let (aw_w32 (x2 + 1)) (fun v27 => ga_let (aw_w32 (x3 + 1)) (fun v30 => g_X51_openRule_l4 n x1 v27 v30 D14 k25 k36))) else (k25 x3 D14)))))
    refine pr_ite (fun c9 => ?_) (fun c9 => ?_)
    exact hk36 _ 
    refine pr_bind (g_X51_isOpen_pr) (fun r14 D14 => ?_)
    refine pr_ite (fun c17 => ?_) (fun c17 => ?_)
    refine pr_let (fun v30 => ?_)
    exact ih _ _ _ _ 
    refine pr_ite (fun c22 => ?_) (fun c22 => ?_)
    refine pr_let (fun v27 => ?_)
    refine pr_let (fun v30 => ?_)
    exact ih _ _ _ _ 
    exact hk25 _ _ 
theorem g_X51_openRule_pr {x1 : Int} {D : ga_D} : ga_pr D (g_X51_openRule x1 D) := by
  unfold g_X51_openRule
  refine g_X51_openRule_l4_pr (fun x3 D25 => ?_) (fun D36 => ?_) _ _ _ _ _ 
  exact pr_some
  exact pr_some
theorem g_X51_open_pr {x1 x2 : Int} {D : ga_D} : ga_pr D (g_X51_open x1 x2 D) := by
  unfold g_X51_open
  refine pr_upd (ga_Pn K_5191 rfl) (fun D2 => ?_)
  refine pr_bind (g_X51_openRule_pr) (fun r7 D7 => ?_)
  refine pr_ite (fun c13 => ?_) (fun c13 => ?_)
  refine pr_ite (fun c19 => ?_) (fun c19 => ?_)
  refine pr_ite (fun c28 => ?_) (fun c28 => ?_)
  refine pr_ite (fun c41 => ?_) (fun c41 => ?_)
  exact pr_some
  refine pr_ck (fun ha49 => ?_)
  exact pr_some
  refine pr_bind (g_X51_classOf_pr) (fun r33 D33 => ?_)
  exact pr_some
  exact pr_some
  exact pr_some
theorem g_X51_run_l15_pr  {k47 : ga_D → ga_S} (hk47 : ∀ (D : ga_D), ga_pr D (k47 D)) : ∀ (n : Nat) (x3 : Int) (D : ga_D), ga_pr D (g_X51_run_l15 n x3 D k47) := by
  intro n
  induction n with
  | zero => intro x3 D; exact pr_none
  | succ n ih =>
    intro x3 D
    show ga_pr D (if D 5191 11 ≤ x3 then (k47 D) else (ga_ck (0 ≤ x3 ∧ x3 < 60) (if D 5199 x3 ≠ D 5191 19 then (ga_let (aw_w32 (x3 + 1)) (fun v41 => g_X51_run_l15 n v41 D k47)) else (ga_bind (g_X51_judge x3 D) (fun r38 D38 => ga_let (aw_w32 (x3 + 1)) (fun v41 => g_X51_run_l15 n v41 D38 k47))))))
    refine pr_ite (fun c20 => ?_) (fun c20 => ?_)
    exact hk47 _ 
    refine pr_ck (fun ha28 => ?_)
    refine pr_ite (fun c33 => ?_) (fun c33 => ?_)
    refine pr_let (fun v41 => ?_)
    exact ih _ _ 
    refine pr_bind (g_X51_judge_pr) (fun r38 D38 => ?_)
    refine pr_let (fun v41 => ?_)
    exact ih _ _ 
theorem g_X51_run_pr {x1 : Int} {D : ga_D} : ga_pr D (g_X51_run x1 D) := by
  unfold g_X51_run
  refine pr_bind (g_X51_forget_pr) (fun r1 D1 => ?_)
  refine pr_bind (g_X51_edition_pr) (fun r7 D7 => ?_)
  refine pr_upd (ga_Pn K_5191 rfl) (fun D10 => ?_)
  refine g_X51_run_l15_pr (fun D47 => ?_) _ _ _ 
  refine pr_bind (g_X51_open_pr) (fun r50 D50 => ?_)
  refine pr_ite (fun c56 => ?_) (fun c56 => ?_)
  exact pr_some
  exact pr_some
theorem g_X51_cls_l9_pr  {k28 : Int → ga_D → ga_S} {k39 : ga_D → ga_S} (hk28 : ∀ (x3 : Int) (D : ga_D), ga_pr D (k28 x3 D)) (hk39 : ∀ (D : ga_D), ga_pr D (k39 D)) : ∀ (n : Nat) (x1 x2 x3 : Int) (D : ga_D), ga_pr D (g_X51_cls_l9 n x1 x2 x3 D k28 k39) := by
  intro n
  induction n with
  | zero => intro x1 x2 x3 D; exact pr_none
  | succ n ih =>
    intro x1 x2 x3 D
    show ga_pr D (if 19 < x3 then (k39 D) else (ga_bind (g_X51_holds x3 D) (fun r17 D17 => if r17 = 0 then (ga_let (aw_w32 (x3 + 1)) (fun v33 => g_X51_cls_l9 n x1 x2 v33 D17 k28 k39)) else (if x2 ≠ x1 then (ga_let (aw_w32 (x2 + 1)) (fun v30 => ga_let (aw_w32 (x3 + 1)) (fun v33 => g_X51_cls_l9 n x1 v30 v33 D17 k28 k39))) else (k28 x3 D17)))))
    refine pr_ite (fun c12 => ?_) (fun c12 => ?_)
    exact hk39 _ 
    refine pr_bind (g_X51_holds_pr) (fun r17 D17 => ?_)
    refine pr_ite (fun c20 => ?_) (fun c20 => ?_)
    refine pr_let (fun v33 => ?_)
    exact ih _ _ _ _ 
    refine pr_ite (fun c25 => ?_) (fun c25 => ?_)
    refine pr_let (fun v30 => ?_)
    refine pr_let (fun v33 => ?_)
    exact ih _ _ _ _ 
    exact hk28 _ _ 
theorem g_X51_cls_pr {x1 : Int} {D : ga_D} : ga_pr D (g_X51_cls x1 D) := by
  unfold g_X51_cls
  refine pr_upd (ga_Pn K_5191 rfl) (fun D2 => ?_)
  refine g_X51_cls_l9_pr (fun x3 D28 => ?_) (fun D39 => ?_) _ _ _ _ _ 
  exact pr_some
  exact pr_some
theorem g_X51_moving_pr {D : ga_D} : ga_pr D (g_X51_moving D) := by
  unfold g_X51_moving
  refine pr_bind (g_X51_cls_pr) (fun r2 D2 => ?_)
  exact pr_some
theorem g_X51_unit_pr {x1 : Int} {D : ga_D} : ga_pr D (g_X51_unit x1 D) := by
  unfold g_X51_unit
  refine pr_upd (ga_Pn K_5191 rfl) (fun D2 => ?_)
  refine pr_ite (fun c6 => ?_) (fun c6 => ?_)
  exact pr_some
  refine pr_ite (fun c13 => ?_) (fun c13 => ?_)
  exact pr_some
  refine pr_ite (fun c23 => ?_) (fun c23 => ?_)
  refine pr_ck (fun ha38 => ?_)
  refine pr_upd (ga_Pn K_5192 rfl) (fun D38 => ?_)
  refine pr_upd (ga_Pn K_5191 rfl) (fun D46 => ?_)
  exact pr_some
  exact pr_some
theorem g_X51_isGap_pr {x0 : Int} {D : ga_D} : ga_pr D (g_X51_isGap x0 D) := by
  unfold g_X51_isGap
  refine pr_ite (fun c3 => ?_) (fun c3 => ?_)
  exact pr_some
  refine pr_ite (fun c9 => ?_) (fun c9 => ?_)
  exact pr_some
  exact pr_some
theorem g_X51_split_l17_pr  {k43 : Int → Int → ga_D → ga_S} (hk43 : ∀ (x1 x2 : Int) (D : ga_D), ga_pr D (k43 x1 x2 D)) : ∀ (n : Nat) (x1 x2 : Int) (D : ga_D), ga_pr D (g_X51_split_l17 n x1 x2 D k43) := by
  intro n
  induction n with
  | zero => intro x1 x2 D; exact pr_none
  | succ n ih =>
    intro x1 x2 D
    show ga_pr D (if D 5191 1 ≤ x2 then (k43 x1 x2 D) else (ga_ck (0 ≤ x2 ∧ x2 < 3000) (ga_bind (g_X51_isGap (D 5192 x2) D) (fun r31 D31 => if r31 ≠ 0 then (k43 x1 x2 D31) else (ga_let (aw_w32 (x2 + 1)) (fun v37 => g_X51_split_l17 n x1 v37 D31 k43))))))
    refine pr_ite (fun c22 => ?_) (fun c22 => ?_)
    exact hk43 _ _ _ 
    refine pr_ck (fun ha30 => ?_)
    refine pr_bind (g_X51_isGap_pr) (fun r31 D31 => ?_)
    refine pr_ite (fun c34 => ?_) (fun c34 => ?_)
    exact hk43 _ _ _ 
    refine pr_let (fun v37 => ?_)
    exact ih _ _ _ 
theorem g_X51_split_j43_pr  {k7 : Int → ga_D → ga_S} (hk7 : ∀ (x1 : Int) (D : ga_D), ga_pr D (k7 x1 D)) (x1 x2 : Int) (D : ga_D) : ga_pr D (g_X51_split_j43 x1 x2 D k7) := by
  unfold g_X51_split_j43
  refine pr_ite (fun c45 => ?_) (fun c45 => ?_)
  refine pr_let (fun v81 => ?_)
  exact hk7 _ _ 
  refine pr_ck (fun ha57 => ?_)
  refine pr_upd (ga_Pn K_5196 rfl) (fun D57 => ?_)
  refine pr_ck (fun ha67 => ?_)
  refine pr_upd (ga_Pn K_5197 rfl) (fun D67 => ?_)
  refine pr_upd (ga_Pn K_5191 rfl) (fun D75 => ?_)
  refine pr_let (fun v81 => ?_)
  exact hk7 _ _ 
theorem g_X51_split_l7_pr  {k85 : ga_D → ga_S} (hk85 : ∀ (D : ga_D), ga_pr D (k85 D)) : ∀ (n : Nat) (x1 : Int) (D : ga_D), ga_pr D (g_X51_split_l7 n x1 D k85) := by
  intro n
  induction n with
  | zero => intro x1 D; exact pr_none
  | succ n ih =>
    intro x1 D
    show ga_pr D (if D 5191 1 ≤ x1 then (k85 D) else (g_X51_split_l17 aw_fu x1 x1 D (fun x1 x2 D43 => g_X51_split_j43 x1 x2 D43 (fun x1 D7 => g_X51_split_l7 n x1 D7 k85))))
    refine pr_ite (fun c12 => ?_) (fun c12 => ?_)
    exact hk85 _ 
    refine g_X51_split_l17_pr (fun x1 x2 D43 => ?_) _ _ _ _ 
    refine g_X51_split_j43_pr (fun x1 D7 => ?_) _ _ _ 
    exact ih _ _ 
theorem g_X51_split_pr {D : ga_D} : ga_pr D (g_X51_split D) := by
  unfold g_X51_split
  refine pr_upd (ga_Pn K_5191 rfl) (fun D2 => ?_)
  refine g_X51_split_l7_pr (fun D85 => ?_) _ _ _ 
  exact pr_some
theorem g_X51_sees_pr {x1 : Int} {D : ga_D} : ga_pr D (g_X51_sees x1 D) := by
  unfold g_X51_sees
  refine pr_ite (fun c8 => ?_) (fun c8 => ?_)
  exact pr_some
  refine pr_bind (g_X51_wordOf_pr) (fun r27 D27 => ?_)
  refine pr_ite (fun c32 => ?_) (fun c32 => ?_)
  exact pr_some
  exact pr_some
theorem g_X51_eats_pr {x1 : Int} {D : ga_D} : ga_pr D (g_X51_eats x1 D) := by
  unfold g_X51_eats
  refine pr_bind (g_X51_sees_pr) (fun r2 D2 => ?_)
  refine pr_ite (fun c8 => ?_) (fun c8 => ?_)
  refine pr_upd (ga_Pn K_5191 rfl) (fun D24 => ?_)
  refine pr_ck (fun hr28 => ?_)
  exact pr_some
  refine pr_upd (ga_Pn K_5191 rfl) (fun D24 => ?_)
  refine pr_ck (fun hr28 => ?_)
  exact pr_some
theorem g_X51_eatsNumber_j54_pr  (s0 : Int) (D : ga_D) : ga_pr D (g_X51_eatsNumber_j54 s0 D) := by
  unfold g_X51_eatsNumber_j54
  refine pr_ite (fun c59 => ?_) (fun c59 => ?_)
  refine pr_upd (ga_Pn K_5191 rfl) (fun D75 => ?_)
  refine pr_ck (fun hr80 => ?_)
  exact pr_some
  refine pr_upd (ga_Pn K_5191 rfl) (fun D75 => ?_)
  refine pr_ck (fun hr80 => ?_)
  exact pr_some
theorem g_X51_eatsNumber_j53_pr  (D : ga_D) : ga_pr D (g_X51_eatsNumber_j53 D) := by
  unfold g_X51_eatsNumber_j53
  refine g_X51_eatsNumber_j54_pr _ _ 
theorem g_X51_eatsNumber_j34_pr  (x1 x2 s0 : Int) (D : ga_D) : ga_pr D (g_X51_eatsNumber_j34 x1 x2 s0 D) := by
  unfold g_X51_eatsNumber_j34
  refine pr_ite (fun c36 => ?_) (fun c36 => ?_)
  refine g_X51_eatsNumber_j53_pr _ 
  refine pr_ite (fun c41 => ?_) (fun c41 => ?_)
  refine g_X51_eatsNumber_j53_pr _ 
  refine pr_ite (fun c46 => ?_) (fun c46 => ?_)
  refine g_X51_eatsNumber_j53_pr _ 
  refine g_X51_eatsNumber_j54_pr _ _ 
theorem g_X51_eatsNumber_pr {x1 x2 : Int} {D : ga_D} : ga_pr D (g_X51_eatsNumber x1 x2 D) := by
  unfold g_X51_eatsNumber
  refine pr_ite (fun c8 => ?_) (fun c8 => ?_)
  refine g_X51_eatsNumber_j34_pr _ _ _ _ 
  refine pr_bind (g_X51_numberOf_pr) (fun r27 D27 => ?_)
  refine g_X51_eatsNumber_j34_pr _ _ _ _ 
theorem g_X51_eatsTerm_j81_pr  (x1 : Int) (D : ga_D) : ga_pr D (g_X51_eatsTerm_j81 x1 D) := by
  unfold g_X51_eatsTerm_j81
  refine pr_ite (fun c82 => ?_) (fun c82 => ?_)
  refine pr_ck (fun hr105 => ?_)
  exact pr_some
  refine pr_bind (g_X51_eats_pr) (fun r89 D89 => ?_)
  refine pr_ite (fun c92 => ?_) (fun c92 => ?_)
  refine pr_ck (fun hr105 => ?_)
  exact pr_some
  refine pr_bind (g_X51_eatsNumber_pr) (fun r100 D100 => ?_)
  refine pr_ck (fun hr105 => ?_)
  exact pr_some
theorem g_X51_eatsTerm_j58_pr  (s0 : Int) (D : ga_D) : ga_pr D (g_X51_eatsTerm_j58 s0 D) := by
  unfold g_X51_eatsTerm_j58
  refine pr_ite (fun c60 => ?_) (fun c60 => ?_)
  refine g_X51_eatsTerm_j81_pr _ _ 
  refine pr_bind (g_X51_eats_pr) (fun r67 D67 => ?_)
  refine pr_ite (fun c70 => ?_) (fun c70 => ?_)
  refine g_X51_eatsTerm_j81_pr _ _ 
  refine pr_bind (g_X51_eatsNumber_pr) (fun r77 D77 => ?_)
  refine g_X51_eatsTerm_j81_pr _ _ 
theorem g_X51_eatsTerm_j57_pr  (D : ga_D) : ga_pr D (g_X51_eatsTerm_j57 D) := by
  unfold g_X51_eatsTerm_j57
  refine g_X51_eatsTerm_j58_pr _ _ 
theorem g_X51_eatsTerm_j22_pr  (D : ga_D) : ga_pr D (g_X51_eatsTerm_j22 D) := by
  unfold g_X51_eatsTerm_j22
  refine pr_bind (g_X51_eatsNumber_pr) (fun r27 D27 => ?_)
  refine pr_ite (fun c30 => ?_) (fun c30 => ?_)
  refine g_X51_eatsTerm_j57_pr _ 
  refine pr_bind (g_X51_eats_pr) (fun r37 D37 => ?_)
  refine pr_ite (fun c40 => ?_) (fun c40 => ?_)
  refine g_X51_eatsTerm_j57_pr _ 
  refine pr_bind (g_X51_eatsNumber_pr) (fun r47 D47 => ?_)
  refine pr_ite (fun c50 => ?_) (fun c50 => ?_)
  refine g_X51_eatsTerm_j57_pr _ 
  refine g_X51_eatsTerm_j58_pr _ _ 
theorem g_X51_eatsTerm_pr {D : ga_D} : ga_pr D (g_X51_eatsTerm D) := by
  unfold g_X51_eatsTerm
  refine pr_bind (g_X51_eats_pr) (fun r4 D4 => ?_)
  refine pr_ite (fun c7 => ?_) (fun c7 => ?_)
  refine g_X51_eatsTerm_j22_pr _ 
  refine pr_bind (g_X51_eats_pr) (fun r14 D14 => ?_)
  refine pr_ite (fun c17 => ?_) (fun c17 => ?_)
  refine g_X51_eatsTerm_j22_pr _ 
  exact pr_some
theorem g_X51_eatsSum_j29_pr  {k5 : Int → ga_D → ga_S} (hk5 : ∀ (x1 : Int) (D : ga_D), ga_pr D (k5 x1 D)) (D : ga_D) : ga_pr D (g_X51_eatsSum_j29 D k5) := by
  unfold g_X51_eatsSum_j29
  refine pr_bind (g_X51_eatsTerm_pr) (fun r30 D30 => ?_)
  exact hk5 _ _ 
theorem g_X51_eatsSum_l5_pr  {k37 : Int → ga_D → ga_S} (hk37 : ∀ (x1 : Int) (D : ga_D), ga_pr D (k37 x1 D)) : ∀ (n : Nat) (x1 : Int) (D : ga_D), ga_pr D (g_X51_eatsSum_l5 n x1 D k37) := by
  intro n
  induction n with
  | zero => intro x1 D; exact pr_none
  | succ n ih =>
    intro x1 D
    show ga_pr D (if x1 = 0 then (k37 x1 D) else (ga_bind (g_X51_sees 6181123443 D) (fun r13 D13 => if r13 ≠ 0 then (g_X51_eatsSum_j29 D13 (fun x1 D5 => g_X51_eatsSum_l5 n x1 D5 k37)) else (ga_bind (g_X51_sees 1569431909747 D13) (fun r23 D23 => if r23 = 0 then (k37 x1 D23) else (g_X51_eatsSum_j29 D23 (fun x1 D5 => g_X51_eatsSum_l5 n x1 D5 k37)))))))
    refine pr_ite (fun c6 => ?_) (fun c6 => ?_)
    exact hk37 _ _ 
    refine pr_bind (g_X51_sees_pr) (fun r13 D13 => ?_)
    refine pr_ite (fun c16 => ?_) (fun c16 => ?_)
    refine g_X51_eatsSum_j29_pr (fun x1 D5 => ?_) _ 
    exact ih _ _ 
    refine pr_bind (g_X51_sees_pr) (fun r23 D23 => ?_)
    refine pr_ite (fun c26 => ?_) (fun c26 => ?_)
    exact hk37 _ _ 
    refine g_X51_eatsSum_j29_pr (fun x1 D5 => ?_) _ 
    exact ih _ _ 
theorem g_X51_eatsSum_j61_pr  (D : ga_D) : ga_pr D (g_X51_eatsSum_j61 D) := by
  unfold g_X51_eatsSum_j61
  refine pr_bind (g_X51_eatsNumber_pr) (fun r65 D65 => ?_)
  refine pr_ite (fun c68 => ?_) (fun c68 => ?_)
  exact pr_some
  exact pr_some
theorem g_X51_eatsSum_j37_pr  (x1 : Int) (D : ga_D) : ga_pr D (g_X51_eatsSum_j37 x1 D) := by
  unfold g_X51_eatsSum_j37
  refine pr_ite (fun c38 => ?_) (fun c38 => ?_)
  exact pr_some
  refine pr_bind (g_X51_eats_pr) (fun r45 D45 => ?_)
  refine pr_ite (fun c48 => ?_) (fun c48 => ?_)
  refine g_X51_eatsSum_j61_pr _ 
  refine pr_bind (g_X51_eats_pr) (fun r55 D55 => ?_)
  refine pr_ite (fun c58 => ?_) (fun c58 => ?_)
  exact pr_some
  refine g_X51_eatsSum_j61_pr _ 
theorem g_X51_eatsSum_pr {D : ga_D} : ga_pr D (g_X51_eatsSum D) := by
  unfold g_X51_eatsSum
  refine pr_bind (g_X51_eatsTerm_pr) (fun r1 D1 => ?_)
  refine g_X51_eatsSum_l5_pr (fun x1 D37 => ?_) _ _ _ 
  refine g_X51_eatsSum_j37_pr _ _ 
theorem g_X51_eatsItem_j40_pr  (D : ga_D) : ga_pr D (g_X51_eatsItem_j40 D) := by
  unfold g_X51_eatsItem_j40
  refine pr_bind (g_X51_eatsNumber_pr) (fun r44 D44 => ?_)
  refine pr_ite (fun c47 => ?_) (fun c47 => ?_)
  exact pr_some
  exact pr_some
theorem g_X51_eatsItem_pr {D : ga_D} : ga_pr D (g_X51_eatsItem D) := by
  unfold g_X51_eatsItem
  refine pr_bind (g_X51_eats_pr) (fun r4 D4 => ?_)
  refine pr_ite (fun c7 => ?_) (fun c7 => ?_)
  refine pr_bind (g_X51_eats_pr) (fun r60 D60 => ?_)
  refine pr_ite (fun c63 => ?_) (fun c63 => ?_)
  refine pr_bind (g_X51_eats_pr) (fun r78 D78 => ?_)
  refine pr_ite (fun c81 => ?_) (fun c81 => ?_)
  exact pr_some
  refine pr_bind (g_X51_eatsSum_pr) (fun r85 D85 => ?_)
  refine pr_ite (fun c88 => ?_) (fun c88 => ?_)
  exact pr_some
  exact pr_some
  refine pr_bind (g_X51_eatsNumber_pr) (fun r70 D70 => ?_)
  refine pr_ck (fun hr73 => ?_)
  exact pr_some
  refine pr_bind (g_X51_eatsNumber_pr) (fun r14 D14 => ?_)
  refine pr_ite (fun c17 => ?_) (fun c17 => ?_)
  exact pr_some
  refine pr_bind (g_X51_eats_pr) (fun r24 D24 => ?_)
  refine pr_ite (fun c27 => ?_) (fun c27 => ?_)
  refine g_X51_eatsItem_j40_pr _ 
  refine pr_bind (g_X51_eats_pr) (fun r34 D34 => ?_)
  refine pr_ite (fun c37 => ?_) (fun c37 => ?_)
  exact pr_some
  refine g_X51_eatsItem_j40_pr _ 
theorem g_X51_eatsRule_l43_pr  {k65 : Int → ga_D → ga_S} (hk65 : ∀ (x1 : Int) (D : ga_D), ga_pr D (k65 x1 D)) : ∀ (n : Nat) (x1 : Int) (D : ga_D), ga_pr D (g_X51_eatsRule_l43 n x1 D k65) := by
  intro n
  induction n with
  | zero => intro x1 D; exact pr_none
  | succ n ih =>
    intro x1 D
    show ga_pr D (if x1 = 0 then (k65 x1 D) else (ga_bind (g_X51_eats 23162468 D) (fun r51 D51 => if r51 = 0 then (k65 x1 D51) else (ga_bind (g_X51_eatsItem D51) (fun r58 D58 => g_X51_eatsRule_l43 n r58 D58 k65)))))
    refine pr_ite (fun c44 => ?_) (fun c44 => ?_)
    exact hk65 _ _ 
    refine pr_bind (g_X51_eats_pr) (fun r51 D51 => ?_)
    refine pr_ite (fun c54 => ?_) (fun c54 => ?_)
    exact hk65 _ _ 
    refine pr_bind (g_X51_eatsItem_pr) (fun r58 D58 => ?_)
    exact ih _ _ 
theorem g_X51_eatsRule_j65_pr  (x1 : Int) (D : ga_D) : ga_pr D (g_X51_eatsRule_j65 x1 D) := by
  unfold g_X51_eatsRule_j65
  refine pr_ite (fun c66 => ?_) (fun c66 => ?_)
  exact pr_some
  refine pr_bind (g_X51_eats_pr) (fun r73 D73 => ?_)
  refine pr_ite (fun c76 => ?_) (fun c76 => ?_)
  exact pr_some
  exact pr_some
theorem g_X51_eatsRule_pr {D : ga_D} : ga_pr D (g_X51_eatsRule D) := by
  unfold g_X51_eatsRule
  refine pr_bind (g_X51_eats_pr) (fun r4 D4 => ?_)
  refine pr_ite (fun c7 => ?_) (fun c7 => ?_)
  refine g_X51_eatsRule_l43_pr (fun x1 D65 => ?_) _ _ _ 
  refine g_X51_eatsRule_j65_pr _ _ 
  refine pr_bind (g_X51_eatsNumber_pr) (fun r14 D14 => ?_)
  refine pr_ite (fun c17 => ?_) (fun c17 => ?_)
  refine g_X51_eatsRule_l43_pr (fun x1 D65 => ?_) _ _ _ 
  refine g_X51_eatsRule_j65_pr _ _ 
  refine pr_bind (g_X51_eats_pr) (fun r24 D24 => ?_)
  refine pr_ite (fun c27 => ?_) (fun c27 => ?_)
  refine g_X51_eatsRule_l43_pr (fun x1 D65 => ?_) _ _ _ 
  refine g_X51_eatsRule_j65_pr _ _ 
  refine pr_bind (g_X51_eatsItem_pr) (fun r31 D31 => ?_)
  refine pr_ite (fun c34 => ?_) (fun c34 => ?_)
  refine g_X51_eatsRule_l43_pr (fun x1 D65 => ?_) _ _ _ 
  refine g_X51_eatsRule_j65_pr _ _ 
  refine g_X51_eatsRule_l43_pr (fun x1 D65 => ?_) _ _ _ 
  refine g_X51_eatsRule_j65_pr _ _ 
theorem g_X51_eatsAll_l79_pr  {k6 : Int → Int → Int → ga_D → ga_S} (hk6 : ∀ (x1 x2 x3 : Int) (D : ga_D), ga_pr D (k6 x1 x2 x3 D)) : ∀ (n : Nat) (x1 x2 x3 : Int) (D : ga_D), ga_pr D (g_X51_eatsAll_l79 n x1 x2 x3 D k6) := by
  intro n
  induction n with
  | zero => intro x1 x2 x3 D; exact pr_none
  | succ n ih =>
    intro x1 x2 x3 D
    show ga_pr D (if x3 = 0 then (k6 x1 x2 x3 D) else (ga_bind (g_X51_sees 1526531715955 D) (fun r87 D87 => if r87 = 0 then (k6 x1 x2 x3 D87) else (if 60 ≤ x2 then (ga_let (aw_w32 (x2 + 1)) (fun v112 => g_X51_eatsAll_l79 n x1 v112 0 D87 k6)) else (ga_bind (g_X51_eatsRule D87) (fun r100 D100 => if r100 = 0 then (ga_let (aw_w32 (x2 + 1)) (fun v112 => g_X51_eatsAll_l79 n x1 v112 0 D100 k6)) else (ga_let (aw_w32 (x2 + 1)) (fun v112 => g_X51_eatsAll_l79 n x1 v112 1 D100 k6))))))))
    refine pr_ite (fun c80 => ?_) (fun c80 => ?_)
    exact hk6 _ _ _ _ 
    refine pr_bind (g_X51_sees_pr) (fun r87 D87 => ?_)
    refine pr_ite (fun c90 => ?_) (fun c90 => ?_)
    exact hk6 _ _ _ _ 
    refine pr_ite (fun c96 => ?_) (fun c96 => ?_)
    refine pr_let (fun v112 => ?_)
    exact ih _ _ _ _ 
    refine pr_bind (g_X51_eatsRule_pr) (fun r100 D100 => ?_)
    refine pr_ite (fun c103 => ?_) (fun c103 => ?_)
    refine pr_let (fun v112 => ?_)
    exact ih _ _ _ _ 
    refine pr_let (fun v112 => ?_)
    exact ih _ _ _ _ 
theorem g_X51_eatsAll_j46_pr  {k6 : Int → Int → Int → ga_D → ga_S} (hk6 : ∀ (x1 x2 x3 : Int) (D : ga_D), ga_pr D (k6 x1 x2 x3 D)) (x2 s0 : Int) (D : ga_D) : ga_pr D (g_X51_eatsAll_j46 x2 s0 D k6) := by
  unfold g_X51_eatsAll_j46
  refine pr_ite (fun c48 => ?_) (fun c48 => ?_)
  refine g_X51_eatsAll_l79_pr (fun x1 x2 x3 D6 => ?_) _ _ _ _ _ 
  exact hk6 _ _ _ _ 
  refine pr_bind (g_X51_numberOf_pr) (fun r69 D69 => ?_)
  refine pr_let (fun v78 => ?_)
  refine g_X51_eatsAll_l79_pr (fun x1 x2 x3 D6 => ?_) _ _ _ _ _ 
  exact hk6 _ _ _ _ 
theorem g_X51_eatsAll_j45_pr  {k6 : Int → Int → Int → ga_D → ga_S} (hk6 : ∀ (x1 x2 x3 : Int) (D : ga_D), ga_pr D (k6 x1 x2 x3 D)) (x2 : Int) (D : ga_D) : ga_pr D (g_X51_eatsAll_j45 x2 D k6) := by
  unfold g_X51_eatsAll_j45
  refine g_X51_eatsAll_j46_pr (fun x1 x2 x3 D6 => ?_) _ _ _ 
  exact hk6 _ _ _ _ 
theorem g_X51_eatsAll_l6_pr  {k118 : Int → ga_D → ga_S} (hk118 : ∀ (x3 : Int) (D : ga_D), ga_pr D (k118 x3 D)) : ∀ (n : Nat) (x1 x2 x3 : Int) (D : ga_D), ga_pr D (g_X51_eatsAll_l6 n x1 x2 x3 D k118) := by
  intro n
  induction n with
  | zero => intro x1 x2 x3 D; exact pr_none
  | succ n ih =>
    intro x1 x2 x3 D
    show ga_pr D (if x3 = 0 then (k118 x3 D) else (if D 5191 8 ≤ D 5191 25 then (k118 x3 D) else (ga_bind (g_X51_eats 6013742957 D) (fun r25 D25 => if r25 = 0 then (g_X51_eatsAll_j45 x2 D25 (fun x1 x2 x3 D6 => g_X51_eatsAll_l6 n x1 x2 x3 D6 k118)) else (ga_bind (g_X51_eatsNumber x1 999999999 D25) (fun r35 D35 => if r35 = 0 then (g_X51_eatsAll_j45 x2 D35 (fun x1 x2 x3 D6 => g_X51_eatsAll_l6 n x1 x2 x3 D6 k118)) else (g_X51_eatsAll_j46 x2 1 D35 (fun x1 x2 x3 D6 => g_X51_eatsAll_l6 n x1 x2 x3 D6 k118))))))))
    refine pr_ite (fun c7 => ?_) (fun c7 => ?_)
    exact hk118 _ _ 
    refine pr_ite (fun c18 => ?_) (fun c18 => ?_)
    exact hk118 _ _ 
    refine pr_bind (g_X51_eats_pr) (fun r25 D25 => ?_)
    refine pr_ite (fun c28 => ?_) (fun c28 => ?_)
    refine g_X51_eatsAll_j45_pr (fun x1 x2 x3 D6 => ?_) _ _ 
    exact ih _ _ _ _ 
    refine pr_bind (g_X51_eatsNumber_pr) (fun r35 D35 => ?_)
    refine pr_ite (fun c38 => ?_) (fun c38 => ?_)
    refine g_X51_eatsAll_j45_pr (fun x1 x2 x3 D6 => ?_) _ _ 
    exact ih _ _ _ _ 
    refine g_X51_eatsAll_j46_pr (fun x1 x2 x3 D6 => ?_) _ _ _ 
    exact ih _ _ _ _ 
theorem g_X51_eatsAll_pr {D : ga_D} : ga_pr D (g_X51_eatsAll D) := by
  unfold g_X51_eatsAll
  refine g_X51_eatsAll_l6_pr (fun x3 D118 => ?_) _ _ _ _ _ 
  refine pr_ck (fun hr119 => ?_)
  exact pr_some
theorem g_X51_read_l45_pr  {k71 : ga_D → ga_S} (hk71 : ∀ (D : ga_D), ga_pr D (k71 D)) : ∀ (n : Nat) (x3 x4 : Int) (D : ga_D), ga_pr D (g_X51_read_l45 n x3 x4 D k71) := by
  intro n
  induction n with
  | zero => intro x3 x4 D; exact pr_none
  | succ n ih =>
    intro x3 x4 D
    show ga_pr D (if x3 ≤ x4 then (k71 D) else (ga_ck (0 ≤ x4 ∧ x4 < 3000) (ga_ck (0 ≤ x4 ∧ x4 < 3000 ∧ (-128) ≤ D 5192 x4 ∧ D 5192 x4 < 128) (ga_let (ga_set D 5193 x4 (D 5192 x4)) (fun D64 => ga_let (aw_w32 (x4 + 1)) (fun v65 => g_X51_read_l45 n x3 v65 D64 k71))))))
    refine pr_ite (fun c48 => ?_) (fun c48 => ?_)
    exact hk71 _ 
    refine pr_ck (fun ha63 => ?_)
    refine pr_ck (fun ha64 => ?_)
    refine pr_upd (ga_Pn K_5193 rfl) (fun D64 => ?_)
    refine pr_let (fun v65 => ?_)
    exact ih _ _ _ 
theorem g_X51_read_l92_pr  {k135 : ga_D → ga_S} (hk135 : ∀ (D : ga_D), ga_pr D (k135 D)) : ∀ (n : Nat) (x4 : Int) (D : ga_D), ga_pr D (g_X51_read_l92 n x4 D k135) := by
  intro n
  induction n with
  | zero => intro x4 D; exact pr_none
  | succ n ih =>
    intro x4 D
    show ga_pr D (if D 5191 5 ≤ x4 then (k135 D) else (ga_ck (0 ≤ x4 ∧ x4 < 1501) (ga_ck (0 ≤ x4 ∧ x4 < 1501) (ga_let (ga_set D 5194 x4 (D 5196 x4)) (fun D114 => ga_ck (0 ≤ x4 ∧ x4 < 1501) (ga_ck (0 ≤ x4 ∧ x4 < 1501) (ga_let (ga_set D114 5195 x4 (D114 5197 x4)) (fun D128 => ga_let (aw_w32 (x4 + 1)) (fun v129 => g_X51_read_l92 n v129 D128 k135)))))))))
    refine pr_ite (fun c98 => ?_) (fun c98 => ?_)
    exact hk135 _ 
    refine pr_ck (fun ha113 => ?_)
    refine pr_ck (fun ha114 => ?_)
    refine pr_upd (ga_Pn K_5194 rfl) (fun D114 => ?_)
    refine pr_ck (fun ha127 => ?_)
    refine pr_ck (fun ha128 => ?_)
    refine pr_upd (ga_Pn K_5195 rfl) (fun D128 => ?_)
    refine pr_let (fun v129 => ?_)
    exact ih _ _ 
theorem g_X51_read_j186_pr  {k138 : Int → ga_D → ga_S} (hk138 : ∀ (x4 : Int) (D : ga_D), ga_pr D (k138 x4 D)) (x4 : Int) (D : ga_D) : ga_pr D (g_X51_read_j186 x4 D k138) := by
  unfold g_X51_read_j186
  refine pr_bind (g_X51_has_pr) (fun r192 D192 => ?_)
  refine pr_ite (fun c195 => ?_) (fun c195 => ?_)
  refine pr_let (fun v234 => ?_)
  exact hk138 _ _ 
  refine pr_ck (fun ha208 => ?_)
  refine pr_upd (ga_Pn K_5198 rfl) (fun D208 => ?_)
  refine pr_ck (fun ha223 => ?_)
  refine pr_upd (ga_Pn K_5199 rfl) (fun D223 => ?_)
  refine pr_upd (ga_Pn K_5191 rfl) (fun D231 => ?_)
  refine pr_let (fun v234 => ?_)
  exact hk138 _ _ 
theorem g_X51_read_l138_pr  {k240 : ga_D → ga_S} (hk240 : ∀ (D : ga_D), ga_pr D (k240 D)) : ∀ (n : Nat) (x4 : Int) (D : ga_D), ga_pr D (g_X51_read_l138 n x4 D k240) := by
  intro n
  induction n with
  | zero => intro x4 D; exact pr_none
  | succ n ih =>
    intro x4 D
    show ga_pr D (if D 5191 5 ≤ x4 then (k240 D) else (ga_bind (g_X51_has x4 6013742957 D) (fun r153 D153 => if r153 = 0 then (g_X51_read_j186 x4 D153 (fun x4 D138 => g_X51_read_l138 n x4 D138 k240)) else (ga_bind (g_X51_number (aw_w32 (x4 + 1)) D153) (fun r172 D172 => ga_ck (0 ≤ D153 5191 13 ∧ D153 5191 13 < 1500) (ga_let (ga_set D172 5200 (D153 5191 13) r172) (fun D175 => ga_let (ga_set D175 5191 13 (aw_w32 ((D175 5191 13) + 1))) (fun D183 => g_X51_read_j186 x4 D183 (fun x4 D138 => g_X51_read_l138 n x4 D138 k240)))))))))
    refine pr_ite (fun c144 => ?_) (fun c144 => ?_)
    exact hk240 _ 
    refine pr_bind (g_X51_has_pr) (fun r153 D153 => ?_)
    refine pr_ite (fun c156 => ?_) (fun c156 => ?_)
    refine g_X51_read_j186_pr (fun x4 D138 => ?_) _ _ 
    exact ih _ _ 
    refine pr_bind (g_X51_number_pr) (fun r172 D172 => ?_)
    refine pr_ck (fun ha175 => ?_)
    refine pr_upd (ga_Pn K_5200 rfl) (fun D175 => ?_)
    refine pr_upd (ga_Pn K_5191 rfl) (fun D183 => ?_)
    refine g_X51_read_j186_pr (fun x4 D138 => ?_) _ _ 
    exact ih _ _ 
theorem g_X51_read_pr {D : ga_D} : ga_pr D (g_X51_read D) := by
  unfold g_X51_read
  refine pr_upd (ga_Pn K_5191 rfl) (fun D2 => ?_)
  refine pr_bind (g_X51_split_pr) (fun r6 D6 => ?_)
  refine pr_upd (ga_Pn K_5191 rfl) (fun D11 => ?_)
  refine pr_bind (g_X51_eatsAll_pr) (fun r15 D15 => ?_)
  refine pr_let (fun v23 => ?_)
  refine pr_let (fun v28 => ?_)
  refine pr_upd (ga_Pn K_5191 rfl) (fun D31 => ?_)
  refine pr_ite (fun c35 => ?_) (fun c35 => ?_)
  refine g_X51_read_l45_pr (fun D71 => ?_) _ _ _ _ 
  refine pr_upd (ga_Pn K_5191 rfl) (fun D76 => ?_)
  refine pr_upd (ga_Pn K_5191 rfl) (fun D81 => ?_)
  refine pr_upd (ga_Pn K_5191 rfl) (fun D86 => ?_)
  refine g_X51_read_l92_pr (fun D135 => ?_) _ _ _ 
  refine g_X51_read_l138_pr (fun D240 => ?_) _ _ _ 
  refine pr_bind (g_X51_forget_pr) (fun r241 D241 => ?_)
  exact pr_some
  exact pr_some
theorem g_X51_test_pr {x1 x2 : Int} {D : ga_D} : ga_pr D (g_X51_test x1 x2 D) := by
  unfold g_X51_test
  refine pr_upd (ga_Pn K_5191 rfl) (fun D2 => ?_)
  refine pr_ite (fun c6 => ?_) (fun c6 => ?_)
  exact pr_some
  refine pr_ite (fun c12 => ?_) (fun c12 => ?_)
  exact pr_some
  refine pr_ite (fun c17 => ?_) (fun c17 => ?_)
  exact pr_some
  refine pr_ite (fun c23 => ?_) (fun c23 => ?_)
  refine pr_ck (fun ha34 => ?_)
  refine pr_upd (ga_Pn K_5204 rfl) (fun D34 => ?_)
  exact pr_some
  exact pr_some
theorem g_X51_clearParts_l7_pr  {k26 : ga_D → ga_S} (hk26 : ∀ (D : ga_D), ga_pr D (k26 D)) : ∀ (n : Nat) (x1 : Int) (D : ga_D), ga_pr D (g_X51_clearParts_l7 n x1 D k26) := by
  intro n
  induction n with
  | zero => intro x1 D; exact pr_none
  | succ n ih =>
    intro x1 D
    show ga_pr D (if 15 < x1 then (k26 D) else (ga_ck (0 ≤ x1 ∧ x1 < 16) (ga_let (ga_set D 5203 x1 0) (fun D19 => ga_let (aw_w32 (x1 + 1)) (fun v20 => g_X51_clearParts_l7 n v20 D19 k26)))))
    refine pr_ite (fun c10 => ?_) (fun c10 => ?_)
    exact hk26 _ 
    refine pr_ck (fun ha19 => ?_)
    refine pr_upd (ga_Pn K_5203 rfl) (fun D19 => ?_)
    refine pr_let (fun v20 => ?_)
    exact ih _ _ 
theorem g_X51_clearParts_l28_pr  {k47 : ga_D → ga_S} (hk47 : ∀ (D : ga_D), ga_pr D (k47 D)) : ∀ (n : Nat) (x1 : Int) (D : ga_D), ga_pr D (g_X51_clearParts_l28 n x1 D k47) := by
  intro n
  induction n with
  | zero => intro x1 D; exact pr_none
  | succ n ih =>
    intro x1 D
    show ga_pr D (if 7 < x1 then (k47 D) else (ga_ck (0 ≤ x1 ∧ x1 < 8) (ga_let (ga_set D 5204 x1 (-1)) (fun D40 => ga_let (aw_w32 (x1 + 1)) (fun v41 => g_X51_clearParts_l28 n v41 D40 k47)))))
    refine pr_ite (fun c31 => ?_) (fun c31 => ?_)
    exact hk47 _ 
    refine pr_ck (fun ha40 => ?_)
    refine pr_upd (ga_Pn K_5204 rfl) (fun D40 => ?_)
    refine pr_let (fun v41 => ?_)
    exact ih _ _ 
theorem g_X51_clearParts_pr {D : ga_D} : ga_pr D (g_X51_clearParts D) := by
  unfold g_X51_clearParts
  refine pr_upd (ga_Pn K_5191 rfl) (fun D2 => ?_)
  refine g_X51_clearParts_l7_pr (fun D26 => ?_) _ _ _ 
  refine g_X51_clearParts_l28_pr (fun D47 => ?_) _ _ _ 
  exact pr_some
theorem g_X51_way_pr {x1 : Int} {D : ga_D} : ga_pr D (g_X51_way x1 D) := by
  unfold g_X51_way
  refine pr_upd (ga_Pn K_5191 rfl) (fun D2 => ?_)
  refine pr_let (fun v9 => ?_)
  refine pr_ck (fun hp12 => ?_)
  refine pr_upd (ga_Pn K_5191 rfl) (fun D12 => ?_)
  refine pr_ck (fun hr16 => ?_)
  exact pr_some
theorem g_X51_walk_pr {x1 : Int} {D : ga_D} : ga_pr D (g_X51_walk x1 D) := by
  unfold g_X51_walk
  refine pr_bind (g_X51_run_pr) (fun r2 D2 => ?_)
  exact pr_some
theorem g_X51_mark_pr {x1 : Int} {D : ga_D} : ga_pr D (g_X51_mark x1 D) := by
  unfold g_X51_mark
  refine pr_upd (ga_Pn K_5191 rfl) (fun D2 => ?_)
  refine pr_ite (fun c6 => ?_) (fun c6 => ?_)
  exact pr_some
  refine pr_ite (fun c14 => ?_) (fun c14 => ?_)
  exact pr_some
  refine pr_ck (fun ha22 => ?_)
  exact pr_some
theorem g_X51_missing_l36_pr  {k76 : Int → Int → Int → Int → Int → ga_D → ga_S} (hk76 : ∀ (x1 x2 x3 x4 x5 : Int) (D : ga_D), ga_pr D (k76 x1 x2 x3 x4 x5 D)) : ∀ (n : Nat) (x1 x2 x3 x4 x5 x6 : Int) (D : ga_D), ga_pr D (g_X51_missing_l36 n x1 x2 x3 x4 x5 x6 D k76) := by
  intro n
  induction n with
  | zero => intro x1 x2 x3 x4 x5 x6 D; exact pr_none
  | succ n ih =>
    intro x1 x2 x3 x4 x5 x6 D
    show ga_pr D (if x3 ≤ x6 then (k76 x1 x2 x3 x4 x5 D) else (if x5 = 0 then (ga_let (aw_w32 (x6 + 1)) (fun v70 => g_X51_missing_l36 n x1 x2 x3 x4 0 v70 D k76)) else (ga_bind (g_X51_openRule x6 D) (fun r54 D54 => ga_ck (0 ≤ r54 ∧ r54 < 60) (if D54 5206 r54 = x4 then (ga_let (aw_w32 (x6 + 1)) (fun v70 => g_X51_missing_l36 n x1 x2 x3 x4 0 v70 D54 k76)) else (ga_let (aw_w32 (x6 + 1)) (fun v70 => g_X51_missing_l36 n x1 x2 x3 x4 1 v70 D54 k76)))))))
    refine pr_ite (fun c39 => ?_) (fun c39 => ?_)
    exact hk76 _ _ _ _ _ _ 
    refine pr_ite (fun c44 => ?_) (fun c44 => ?_)
    refine pr_let (fun v70 => ?_)
    exact ih _ _ _ _ _ _ _ 
    refine pr_bind (g_X51_openRule_pr) (fun r54 D54 => ?_)
    refine pr_ck (fun ha57 => ?_)
    refine pr_ite (fun c60 => ?_) (fun c60 => ?_)
    refine pr_let (fun v70 => ?_)
    exact ih _ _ _ _ _ _ _ 
    refine pr_let (fun v70 => ?_)
    exact ih _ _ _ _ _ _ _ 
theorem g_X51_missing_l9_pr  {k86 : Int → ga_D → ga_S} {k98 : ga_D → ga_S} (hk86 : ∀ (x4 : Int) (D : ga_D), ga_pr D (k86 x4 D)) (hk98 : ∀ (D : ga_D), ga_pr D (k98 D)) : ∀ (n : Nat) (x1 x2 x3 : Int) (D : ga_D), ga_pr D (g_X51_missing_l9 n x1 x2 x3 D k86 k98) := by
  intro n
  induction n with
  | zero => intro x1 x2 x3 D; exact pr_none
  | succ n ih =>
    intro x1 x2 x3 D
    show ga_pr D (ga_bind (g_X51_openRule x3 D) (fun r11 D11 => if r11 = (-1) then (k98 D11) else (ga_bind (g_X51_openRule x3 D11) (fun r24 D24 => ga_ck (0 ≤ r24 ∧ r24 < 60) (ga_let (D24 5206 r24) (fun v28 => g_X51_missing_l36 aw_fu x1 x2 x3 v28 1 0 D24 (fun x1 x2 x3 x4 x5 D76 => if x5 = 0 then (ga_let (aw_w32 (x3 + 1)) (fun v92 => g_X51_missing_l9 n x1 x2 v92 D76 k86 k98)) else (if x2 ≠ x1 then (ga_let (aw_w32 (x2 + 1)) (fun v89 => ga_let (aw_w32 (x3 + 1)) (fun v92 => g_X51_missing_l9 n x1 v89 v92 D76 k86 k98))) else (k86 x4 D76)))))))))
    refine pr_bind (g_X51_openRule_pr) (fun r11 D11 => ?_)
    refine pr_ite (fun c15 => ?_) (fun c15 => ?_)
    exact hk98 _ 
    refine pr_bind (g_X51_openRule_pr) (fun r24 D24 => ?_)
    refine pr_ck (fun ha27 => ?_)
    refine pr_let (fun v28 => ?_)
    refine g_X51_missing_l36_pr (fun x1 x2 x3 x4 x5 D76 => ?_) _ _ _ _ _ _ _ _ 
    refine pr_ite (fun c78 => ?_) (fun c78 => ?_)
    refine pr_let (fun v92 => ?_)
    exact ih _ _ _ _ 
    refine pr_ite (fun c83 => ?_) (fun c83 => ?_)
    refine pr_let (fun v89 => ?_)
    refine pr_let (fun v92 => ?_)
    exact ih _ _ _ _ 
    exact hk86 _ _ 
theorem g_X51_missing_pr {x1 : Int} {D : ga_D} : ga_pr D (g_X51_missing x1 D) := by
  unfold g_X51_missing
  refine pr_upd (ga_Pn K_5191 rfl) (fun D2 => ?_)
  refine g_X51_missing_l9_pr (fun x4 D86 => ?_) (fun D98 => ?_) _ _ _ _ _ 
  exact pr_some
  exact pr_some
theorem g_X51_items_l8_pr  {k25 : Int → ga_D → ga_S} (hk25 : ∀ (x2 : Int) (D : ga_D), ga_pr D (k25 x2 D)) : ∀ (n : Nat) (x2 x3 : Int) (D : ga_D), ga_pr D (g_X51_items_l8 n x2 x3 D k25) := by
  intro n
  induction n with
  | zero => intro x2 x3 D; exact pr_none
  | succ n ih =>
    intro x2 x3 D
    show ga_pr D (if x3 = (-1) then (k25 x2 D) else (ga_let (aw_w32 (x2 + 1)) (fun v13 => ga_bind (g_X51_nextItem x3 D) (fun r18 D18 => g_X51_items_l8 n v13 r18 D18 k25))))
    refine pr_ite (fun c10 => ?_) (fun c10 => ?_)
    exact hk25 _ _ 
    refine pr_let (fun v13 => ?_)
    refine pr_bind (g_X51_nextItem_pr) (fun r18 D18 => ?_)
    exact ih _ _ _ 
theorem g_X51_items_pr {x1 : Int} {D : ga_D} : ga_pr D (g_X51_items x1 D) := by
  unfold g_X51_items
  refine pr_bind (g_X51_firstItem_pr) (fun r4 D4 => ?_)
  refine g_X51_items_l8_pr (fun x2 D25 => ?_) _ _ _ _ 
  exact pr_some
theorem g_X51_explain_l11_pr  {k47 : Int → Int → ga_D → ga_S} {k96 : ga_D → ga_S} (hk47 : ∀ (x3 x5 : Int) (D : ga_D), ga_pr D (k47 x3 x5 D)) (hk96 : ∀ (D : ga_D), ga_pr D (k96 D)) : ∀ (n : Nat) (x1 x2 x3 x4 x5 : Int) (D : ga_D), ga_pr D (g_X51_explain_l11 n x1 x2 x3 x4 x5 D k47 k96) := by
  intro n
  induction n with
  | zero => intro x1 x2 x3 x4 x5 D; exact pr_none
  | succ n ih =>
    intro x1 x2 x3 x4 x5 D
    show ga_pr D (if D 5191 11 ≤ x5 then (k96 D) else (ga_ck (0 ≤ x5 ∧ x5 < 60) (if D 5205 x5 ≠ 1 then (ga_let (aw_w32 (x5 + 1)) (fun v90 => g_X51_explain_l11 n x1 x2 x3 x4 v90 D k47 k96)) else (ga_bind (g_X51_classOf x5 D) (fun r34 D34 => if r34 ≠ x1 then (ga_let (aw_w32 (x5 + 1)) (fun v90 => g_X51_explain_l11 n x1 x2 x3 x4 v90 D34 k47 k96)) else (if x4 ≠ x2 then (ga_let (aw_w32 (x4 + 1)) (fun v87 => ga_let (aw_w32 (x5 + 1)) (fun v90 => g_X51_explain_l11 n x1 x2 x3 v87 v90 D34 k47 k96))) else (k47 x3 x5 D34)))))))
    refine pr_ite (fun c17 => ?_) (fun c17 => ?_)
    exact hk96 _ 
    refine pr_ck (fun ha26 => ?_)
    refine pr_ite (fun c28 => ?_) (fun c28 => ?_)
    refine pr_let (fun v90 => ?_)
    exact ih _ _ _ _ _ _ 
    refine pr_bind (g_X51_classOf_pr) (fun r34 D34 => ?_)
    refine pr_ite (fun c38 => ?_) (fun c38 => ?_)
    refine pr_let (fun v90 => ?_)
    exact ih _ _ _ _ _ _ 
    refine pr_ite (fun c44 => ?_) (fun c44 => ?_)
    refine pr_let (fun v87 => ?_)
    refine pr_let (fun v90 => ?_)
    exact ih _ _ _ _ _ _ 
    exact hk47 _ _ _ 
theorem g_X51_explain_pr {x1 x2 x3 : Int} {D : ga_D} : ga_pr D (g_X51_explain x1 x2 x3 D) := by
  unfold g_X51_explain
  refine pr_upd (ga_Pn K_5191 rfl) (fun D2 => ?_)
  refine g_X51_explain_l11_pr (fun x3 x5 D47 => ?_) (fun D96 => ?_) _ _ _ _ _ _ _ 
  refine pr_ite (fun c48 => ?_) (fun c48 => ?_)
  refine pr_ite (fun c58 => ?_) (fun c58 => ?_)
  refine pr_ite (fun c72 => ?_) (fun c72 => ?_)
  exact pr_some
  refine pr_ck (fun ha81 => ?_)
  exact pr_some
  refine pr_bind (g_X51_items_pr) (fun r64 D64 => ?_)
  exact pr_some
  exact pr_some
  exact pr_some
theorem g_X51_limit_j135_pr  {k61 : Int → Int → Int → Int → ga_D → ga_S} (hk61 : ∀ (x1 x2 x4 x5 : Int) (D : ga_D), ga_pr D (k61 x1 x2 x4 x5 D)) (x1 x2 x4 x5 : Int) (D : ga_D) : ga_pr D (g_X51_limit_j135 x1 x2 x4 x5 D k61) := by
  unfold g_X51_limit_j135
  refine pr_bind (g_X51_nextItem_pr) (fun r138 D138 => ?_)
  exact hk61 _ _ _ _ _ 
theorem g_X51_limit_j134_pr  {k61 : Int → Int → Int → Int → ga_D → ga_S} (hk61 : ∀ (x1 x2 x4 x5 : Int) (D : ga_D), ga_pr D (k61 x1 x2 x4 x5 D)) (x1 x4 x5 s0 : Int) (D : ga_D) : ga_pr D (g_X51_limit_j134 x1 x4 x5 s0 D k61) := by
  unfold g_X51_limit_j134
  refine g_X51_limit_j135_pr (fun x1 x2 x4 x5 D61 => ?_) _ _ _ _ _ 
  exact hk61 _ _ _ _ _ 
theorem g_X51_limit_j133_pr  {k61 : Int → Int → Int → Int → ga_D → ga_S} (hk61 : ∀ (x1 x2 x4 x5 : Int) (D : ga_D), ga_pr D (k61 x1 x2 x4 x5 D)) (x1 x2 x4 x5 : Int) (D : ga_D) : ga_pr D (g_X51_limit_j133 x1 x2 x4 x5 D k61) := by
  unfold g_X51_limit_j133
  refine g_X51_limit_j134_pr (fun x1 x2 x4 x5 D61 => ?_) _ _ _ _ _ 
  exact hk61 _ _ _ _ _ 
theorem g_X51_limit_j127_pr  {k61 : Int → Int → Int → Int → ga_D → ga_S} (hk61 : ∀ (x1 x2 x4 x5 : Int) (D : ga_D), ga_pr D (k61 x1 x2 x4 x5 D)) (x1 x4 x5 x6 : Int) (D : ga_D) : ga_pr D (g_X51_limit_j127 x1 x4 x5 x6 D k61) := by
  unfold g_X51_limit_j127
  refine g_X51_limit_j134_pr (fun x1 x2 x4 x5 D61 => ?_) _ _ _ _ _ 
  exact hk61 _ _ _ _ _ 
theorem g_X51_limit_l61_pr  {k146 : Int → Int → Int → ga_D → ga_S} (hk146 : ∀ (x1 x2 x4 : Int) (D : ga_D), ga_pr D (k146 x1 x2 x4 D)) : ∀ (n : Nat) (x1 x2 x4 x5 : Int) (D : ga_D), ga_pr D (g_X51_limit_l61 n x1 x2 x4 x5 D k146) := by
  intro n
  induction n with
  | zero => intro x1 x2 x4 x5 D; exact pr_none
  | succ n ih =>
    intro x1 x2 x4 x5 D
    show ga_pr D (if x5 = (-1) then (k146 x1 x2 x4 D) else (ga_bind (g_X51_has x5 24343917 D) (fun r73 D73 => if r73 = 0 then (g_X51_limit_j135 x1 x2 x4 x5 D73 (fun x1 x2 x4 x5 D61 => g_X51_limit_l61 n x1 x2 x4 x5 D61 k146)) else (ga_bind (g_X51_add x5 1 (-1) D73) (fun r84 D84 => ga_bind (g_X51_number (aw_w32 ((D84 5191 28) + 1)) D84) (fun r94 D94 => ga_bind (g_X51_has (D94 5191 28) 6164997490 D94) (fun r107 D107 => if r107 = 0 then (g_X51_limit_j133 x1 x2 x4 x5 D107 (fun x1 x2 x4 x5 D61 => g_X51_limit_l61 n x1 x2 x4 x5 D61 k146)) else (if x2 < 0 then (g_X51_limit_j127 x1 x4 x5 r94 D107 (fun x1 x2 x4 x5 D61 => g_X51_limit_l61 n x1 x2 x4 x5 D61 k146)) else (if x2 ≤ r94 then (g_X51_limit_j133 x1 x2 x4 x5 D107 (fun x1 x2 x4 x5 D61 => g_X51_limit_l61 n x1 x2 x4 x5 D61 k146)) else (g_X51_limit_j127 x1 x4 x5 r94 D107 (fun x1 x2 x4 x5 D61 => g_X51_limit_l61 n x1 x2 x4 x5 D61 k146)))))))))))
    refine pr_ite (fun c64 => ?_) (fun c64 => ?_)
    exact hk146 _ _ _ _ 
    refine pr_bind (g_X51_has_pr) (fun r73 D73 => ?_)
    refine pr_ite (fun c76 => ?_) (fun c76 => ?_)
    refine g_X51_limit_j135_pr (fun x1 x2 x4 x5 D61 => ?_) _ _ _ _ _ 
    exact ih _ _ _ _ _ 
    refine pr_bind (g_X51_add_pr) (fun r84 D84 => ?_)
    refine pr_bind (g_X51_number_pr) (fun r94 D94 => ?_)
    refine pr_bind (g_X51_has_pr) (fun r107 D107 => ?_)
    refine pr_ite (fun c110 => ?_) (fun c110 => ?_)
    refine g_X51_limit_j133_pr (fun x1 x2 x4 x5 D61 => ?_) _ _ _ _ _ 
    exact ih _ _ _ _ _ 
    refine pr_ite (fun c116 => ?_) (fun c116 => ?_)
    refine g_X51_limit_j127_pr (fun x1 x2 x4 x5 D61 => ?_) _ _ _ _ _ 
    exact ih _ _ _ _ _ 
    refine pr_ite (fun c124 => ?_) (fun c124 => ?_)
    refine g_X51_limit_j133_pr (fun x1 x2 x4 x5 D61 => ?_) _ _ _ _ _ 
    exact ih _ _ _ _ _ 
    refine g_X51_limit_j127_pr (fun x1 x2 x4 x5 D61 => ?_) _ _ _ _ _ 
    exact ih _ _ _ _ _ 
theorem g_X51_limit_l12_pr  {k152 : Int → ga_D → ga_S} (hk152 : ∀ (x2 : Int) (D : ga_D), ga_pr D (k152 x2 D)) : ∀ (n : Nat) (x1 x2 x4 : Int) (D : ga_D), ga_pr D (g_X51_limit_l12 n x1 x2 x4 D k152) := by
  intro n
  induction n with
  | zero => intro x1 x2 x4 D; exact pr_none
  | succ n ih =>
    intro x1 x2 x4 D
    show ga_pr D (if D 5191 11 ≤ x4 then (k152 x2 D) else (if D 5191 19 = (-1) then (k152 x2 D) else (ga_ck (0 ≤ x4 ∧ x4 < 60) (if D 5199 x4 ≠ D 5191 19 then (ga_let (aw_w32 (x4 + 1)) (fun v146 => g_X51_limit_l12 n x1 x2 v146 D k152)) else (ga_bind (g_X51_classOf x4 D) (fun r46 D46 => if r46 ≠ x1 then (ga_let (aw_w32 (x4 + 1)) (fun v146 => g_X51_limit_l12 n x1 x2 v146 D46 k152)) else (ga_bind (g_X51_firstItem x4 D46) (fun r56 D56 => g_X51_limit_l61 aw_fu x1 x2 x4 r56 D56 (fun x1 x2 x4 D146 => ga_let (aw_w32 (x4 + 1)) (fun v146 => g_X51_limit_l12 n x1 x2 v146 D146 k152))))))))))
    refine pr_ite (fun c18 => ?_) (fun c18 => ?_)
    exact hk152 _ _ 
    refine pr_ite (fun c26 => ?_) (fun c26 => ?_)
    exact hk152 _ _ 
    refine pr_ck (fun ha35 => ?_)
    refine pr_ite (fun c40 => ?_) (fun c40 => ?_)
    refine pr_let (fun v146 => ?_)
    exact ih _ _ _ _ 
    refine pr_bind (g_X51_classOf_pr) (fun r46 D46 => ?_)
    refine pr_ite (fun c50 => ?_) (fun c50 => ?_)
    refine pr_let (fun v146 => ?_)
    exact ih _ _ _ _ 
    refine pr_bind (g_X51_firstItem_pr) (fun r56 D56 => ?_)
    refine g_X51_limit_l61_pr (fun x1 x2 x4 D146 => ?_) _ _ _ _ _ _ 
    refine pr_let (fun v146 => ?_)
    exact ih _ _ _ _ 
theorem g_X51_limit_pr {x1 : Int} {D : ga_D} : ga_pr D (g_X51_limit x1 D) := by
  unfold g_X51_limit
  refine pr_upd (ga_Pn K_5191 rfl) (fun D2 => ?_)
  refine g_X51_limit_l12_pr (fun x2 D152 => ?_) _ _ _ _ _ 
  exact pr_some
theorem g_X51_sum_l46_pr  {k64 : Int → Int → Int → ga_D → ga_S} {k109 : ga_D → ga_S} (hk64 : ∀ (x2 x3 x4 : Int) (D : ga_D), ga_pr D (k64 x2 x3 x4 D)) (hk109 : ∀ (D : ga_D), ga_pr D (k109 D)) : ∀ (n : Nat) (x2 x3 x4 : Int) (D : ga_D), ga_pr D (g_X51_sum_l46 n x2 x3 x4 D k64 k109) := by
  intro n
  induction n with
  | zero => intro x2 x3 x4 D; exact pr_none
  | succ n ih =>
    intro x2 x3 x4 D
    show ga_pr D (if x4 = (-1) then (k109 D) else (ga_bind (g_X51_has x4 24343917 D) (fun r58 D58 => if r58 = 0 then (ga_bind (g_X51_nextItem x4 D58) (fun r101 D101 => g_X51_sum_l46 n x2 x3 r101 D101 k64 k109)) else (k64 x2 x3 x4 D58))))
    refine pr_ite (fun c49 => ?_) (fun c49 => ?_)
    exact hk109 _ 
    refine pr_bind (g_X51_has_pr) (fun r58 D58 => ?_)
    refine pr_ite (fun c61 => ?_) (fun c61 => ?_)
    refine pr_bind (g_X51_nextItem_pr) (fun r101 D101 => ?_)
    exact ih _ _ _ _ 
    exact hk64 _ _ _ _ 
theorem g_X51_sum_j77_pr  (x3 s0 s1 : Int) (D : ga_D) : ga_pr D (g_X51_sum_j77 x3 s0 s1 D) := by
  unfold g_X51_sum_j77
  refine pr_bind (g_X51_add_pr) (fun r78 D78 => ?_)
  refine pr_ite (fun c86 => ?_) (fun c86 => ?_)
  exact pr_some
  exact pr_some
theorem g_X51_sum_pr {x1 x2 x3 : Int} {D : ga_D} : ga_pr D (g_X51_sum x1 x2 x3 D) := by
  unfold g_X51_sum
  refine pr_upd (ga_Pn K_5191 rfl) (fun D2 => ?_)
  refine pr_ite (fun c6 => ?_) (fun c6 => ?_)
  exact pr_some
  refine pr_ite (fun c14 => ?_) (fun c14 => ?_)
  exact pr_some
  refine pr_ite (fun c18 => ?_) (fun c18 => ?_)
  exact pr_some
  refine pr_ite (fun c23 => ?_) (fun c23 => ?_)
  exact pr_some
  refine pr_ite (fun c28 => ?_) (fun c28 => ?_)
  exact pr_some
  refine pr_ite (fun c34 => ?_) (fun c34 => ?_)
  refine pr_bind (g_X51_firstItem_pr) (fun r41 D41 => ?_)
  refine g_X51_sum_l46_pr (fun x2 x3 x4 D64 => ?_) (fun D109 => ?_) _ _ _ _ _ 
  refine pr_ite (fun c69 => ?_) (fun c69 => ?_)
  refine g_X51_sum_j77_pr _ _ _ _ 
  refine g_X51_sum_j77_pr _ _ _ _ 
  exact pr_some
  exact pr_some
theorem g_X51_table_l26_pr  {k37 : Int → ga_D → ga_S} {k85 : ga_D → ga_S} (hk37 : ∀ (x4 : Int) (D : ga_D), ga_pr D (k37 x4 D)) (hk85 : ∀ (D : ga_D), ga_pr D (k85 D)) : ∀ (n : Nat) (x2 x3 x4 : Int) (D : ga_D), ga_pr D (g_X51_table_l26 n x2 x3 x4 D k37 k85) := by
  intro n
  induction n with
  | zero => intro x2 x3 x4 D; exact pr_none
  | succ n ih =>
    intro x2 x3 x4 D
    show ga_pr D (if x4 = (-1) then (k85 D) else (if x3 ≠ x2 then (ga_let (aw_w32 (x3 + 1)) (fun v71 => ga_bind (g_X51_nextItem x4 D) (fun r77 D77 => g_X51_table_l26 n x2 v71 r77 D77 k37 k85))) else (k37 x4 D)))
    refine pr_ite (fun c29 => ?_) (fun c29 => ?_)
    exact hk85 _ 
    refine pr_ite (fun c34 => ?_) (fun c34 => ?_)
    refine pr_let (fun v71 => ?_)
    refine pr_bind (g_X51_nextItem_pr) (fun r77 D77 => ?_)
    exact ih _ _ _ _ 
    exact hk37 _ _ 
theorem g_X51_table_pr {x1 x2 : Int} {D : ga_D} : ga_pr D (g_X51_table x1 x2 D) := by
  unfold g_X51_table
  refine pr_upd (ga_Pn K_5191 rfl) (fun D2 => ?_)
  refine pr_ite (fun c8 => ?_) (fun c8 => ?_)
  refine pr_upd (ga_Pn K_5191 rfl) (fun D87 => ?_)
  exact pr_some
  refine pr_ite (fun c16 => ?_) (fun c16 => ?_)
  refine pr_upd (ga_Pn K_5191 rfl) (fun D87 => ?_)
  exact pr_some
  refine pr_bind (g_X51_firstItem_pr) (fun r21 D21 => ?_)
  refine g_X51_table_l26_pr (fun x4 D37 => ?_) (fun D85 => ?_) _ _ _ _ _ 
  refine pr_bind (g_X51_has_pr) (fun r43 D43 => ?_)
  refine pr_ite (fun c46 => ?_) (fun c46 => ?_)
  refine pr_bind (g_X51_has_pr) (fun r59 D59 => ?_)
  refine pr_ite (fun c62 => ?_) (fun c62 => ?_)
  exact pr_some
  exact pr_some
  exact pr_some
  refine pr_upd (ga_Pn K_5191 rfl) (fun D87 => ?_)
  exact pr_some
theorem g_X51_write_j86_pr  {k9 : Int → Int → Int → ga_D → ga_S} (hk9 : ∀ (x1 x2 x3 : Int) (D : ga_D), ga_pr D (k9 x1 x2 x3 D)) (x1 x2 x3 x4 : Int) (D : ga_D) : ga_pr D (g_X51_write_j86 x1 x2 x3 x4 D k9) := by
  unfold g_X51_write_j86
  refine pr_let (fun v92 => ?_)
  refine pr_let (fun v93 => ?_)
  exact hk9 _ _ _ _ 
theorem g_X51_write_j65_pr  {k83 : ga_D → ga_S} {k9 : Int → Int → Int → ga_D → ga_S} (hk83 : ∀ (D : ga_D), ga_pr D (k83 D)) (hk9 : ∀ (x1 x2 x3 : Int) (D : ga_D), ga_pr D (k9 x1 x2 x3 D)) (x1 x2 x3 x4 : Int) (D : ga_D) : ga_pr D (g_X51_write_j65 x1 x2 x3 x4 D k83 k9) := by
  unfold g_X51_write_j65
  refine pr_ite (fun c70 => ?_) (fun c70 => ?_)
  refine g_X51_write_j86_pr (fun x1 x2 x3 D9 => ?_) _ _ _ _ _ 
  exact hk9 _ _ _ _ 
  refine pr_ite (fun c80 => ?_) (fun c80 => ?_)
  refine g_X51_write_j86_pr (fun x1 x2 x3 D9 => ?_) _ _ _ _ _ 
  exact hk9 _ _ _ _ 
  exact hk83 _ 
theorem g_X51_write_l9_pr  {k45 : Int → Int → Int → ga_D → ga_S} {k83 : ga_D → ga_S} {k99 : ga_D → ga_S} (hk45 : ∀ (x1 x2 x3 : Int) (D : ga_D), ga_pr D (k45 x1 x2 x3 D)) (hk83 : ∀ (D : ga_D), ga_pr D (k83 D)) (hk99 : ∀ (D : ga_D), ga_pr D (k99 D)) : ∀ (n : Nat) (x1 x2 x3 : Int) (D : ga_D), ga_pr D (g_X51_write_l9 n x1 x2 x3 D k45 k83 k99) := by
  intro n
  induction n with
  | zero => intro x1 x2 x3 D; exact pr_none
  | succ n ih =>
    intro x1 x2 x3 D
    show ga_pr D (if D 5191 5 ≤ x3 then (k99 D) else (ga_ck (0 ≤ x3 ∧ x3 < 1501) (ga_ck (0 ≤ x3 ∧ x3 < 1501) (ga_let (aw_w32 ((D 5195 x3) - (D 5194 x3))) (fun v30 => if x1 < x2 then (g_X51_write_j65 x1 x2 x3 v30 D (fun D83 => k83 D83) (fun x1 x2 x3 D9 => g_X51_write_l9 n x1 x2 x3 D9 k45 k83 k99)) else (if aw_w32 (x2 + v30) ≤ x1 then (g_X51_write_j65 x1 x2 x3 v30 D (fun D83 => k83 D83) (fun x1 x2 x3 D9 => g_X51_write_l9 n x1 x2 x3 D9 k45 k83 k99)) else (k45 x1 x2 x3 D)))))))
    refine pr_ite (fun c14 => ?_) (fun c14 => ?_)
    exact hk99 _ 
    refine pr_ck (fun ha22 => ?_)
    refine pr_ck (fun ha28 => ?_)
    refine pr_let (fun v30 => ?_)
    refine pr_ite (fun c34 => ?_) (fun c34 => ?_)
    refine g_X51_write_j65_pr (fun D83 => ?_) (fun x1 x2 x3 D9 => ?_) _ _ _ _ _ 
    exact hk83 _ 
    exact ih _ _ _ _ 
    refine pr_ite (fun c42 => ?_) (fun c42 => ?_)
    refine g_X51_write_j65_pr (fun D83 => ?_) (fun x1 x2 x3 D9 => ?_) _ _ _ _ _ 
    exact hk83 _ 
    exact ih _ _ _ _ 
    exact hk45 _ _ _ _ 
theorem g_X51_write_pr {x1 : Int} {D : ga_D} : ga_pr D (g_X51_write x1 D) := by
  unfold g_X51_write
  refine pr_upd (ga_Pn K_5191 rfl) (fun D2 => ?_)
  refine g_X51_write_l9_pr (fun x1 x2 x3 D45 => ?_) (fun D83 => ?_) (fun D99 => ?_) _ _ _ _ _ 
  refine pr_ck (fun ha54 => ?_)
  refine pr_ck (fun ha59 => ?_)
  exact pr_some
  exact pr_some
  exact pr_some
theorem g_X51_thrown_pr {D : ga_D} : ga_pr D (g_X51_thrown D) := by
  unfold g_X51_thrown
  exact pr_some
