theorem g_X51_part_fr {x1 x2 x4 : Int} {D : ga_D} : ga_fr 5191 5208 D (g_X51_part x1 x2 x4 D) := by
  unfold g_X51_part
  refine fr_upd (by decide) (fun D2 => ?_)
  refine fr_ite (fun c6 => ?_) (fun c6 => ?_)
  exact fr_some
  refine fr_ite (fun c12 => ?_) (fun c12 => ?_)
  exact fr_some
  refine fr_ite (fun c18 => ?_) (fun c18 => ?_)
  exact fr_some
  refine fr_ite (fun c25 => ?_) (fun c25 => ?_)
  exact fr_some
  refine fr_ite (fun c34 => ?_) (fun c34 => ?_)
  refine fr_ck (fun ha45 => ?_)
  refine fr_upd (by decide) (fun D45 => ?_)
  refine fr_ck (fun ha53 => ?_)
  refine fr_upd (by decide) (fun D53 => ?_)
  refine fr_ck (fun ha62 => ?_)
  refine fr_upd (by decide) (fun D62 => ?_)
  exact fr_some
  exact fr_some
theorem g_X51_forget_l12_fr  {k31 : ga_D → ga_S} (hk31 : ∀ (D : ga_D), ga_fr 5191 5208 D (k31 D)) : ∀ (n : Nat) (x1 : Int) (D : ga_D), ga_fr 5191 5208 D (g_X51_forget_l12 n x1 D k31) := by
  intro n
  induction n with
  | zero => intro x1 D; exact fr_none
  | succ n ih =>
    intro x1 D
    show ga_fr 5191 5208 D (if 60 ≤ x1 then (k31 D) else (ga_ck (0 ≤ x1 ∧ x1 < 60) (ga_let (ga_set D 5205 x1 0) (fun D24 => ga_let (aw_w32 (x1 + 1)) (fun v25 => g_X51_forget_l12 n v25 D24 k31)))))
    refine fr_ite (fun c15 => ?_) (fun c15 => ?_)
    exact hk31 _ 
    refine fr_ck (fun ha24 => ?_)
    refine fr_upd (by decide) (fun D24 => ?_)
    refine fr_let (fun v25 => ?_)
    exact ih _ _ 
theorem g_X51_forget_fr {D : ga_D} : ga_fr 5191 5208 D (g_X51_forget D) := by
  unfold g_X51_forget
  refine fr_upd (by decide) (fun D2 => ?_)
  refine fr_upd (by decide) (fun D7 => ?_)
  refine g_X51_forget_l12_fr (fun D31 => ?_) _ _ _ 
  exact fr_some
theorem g_X51_edition_l10_fr  {k45 : Int → ga_D → ga_S} (hk45 : ∀ (x3 : Int) (D : ga_D), ga_fr 5191 5208 D (k45 x3 D)) : ∀ (n : Nat) (x1 x3 x4 : Int) (D : ga_D), ga_fr 5191 5208 D (g_X51_edition_l10 n x1 x3 x4 D k45) := by
  intro n
  induction n with
  | zero => intro x1 x3 x4 D; exact fr_none
  | succ n ih =>
    intro x1 x3 x4 D
    show ga_fr 5191 5208 D (if D 5191 13 ≤ x4 then (k45 x3 D) else (ga_ck (0 ≤ x4 ∧ x4 < 1500) (if x1 < D 5200 x4 then (ga_let (aw_w32 (x4 + 1)) (fun v39 => g_X51_edition_l10 n x1 x3 v39 D k45)) else (ga_let (aw_w32 (x4 + 1)) (fun v39 => g_X51_edition_l10 n x1 x4 v39 D k45)))))
    refine fr_ite (fun c16 => ?_) (fun c16 => ?_)
    exact hk45 _ _ 
    refine fr_ck (fun ha25 => ?_)
    refine fr_ite (fun c29 => ?_) (fun c29 => ?_)
    refine fr_let (fun v39 => ?_)
    exact ih _ _ _ _ 
    refine fr_let (fun v39 => ?_)
    exact ih _ _ _ _ 
theorem g_X51_edition_fr {x1 : Int} {D : ga_D} : ga_fr 5191 5208 D (g_X51_edition x1 D) := by
  unfold g_X51_edition
  refine fr_upd (by decide) (fun D2 => ?_)
  refine g_X51_edition_l10_fr (fun x3 D45 => ?_) _ _ _ _ _ 
  exact fr_some
theorem g_X51_firstItem_fr {x1 : Int} {D : ga_D} : ga_fr 5191 5208 D (g_X51_firstItem x1 D) := by
  unfold g_X51_firstItem
  refine fr_ck (fun ha5 => ?_)
  exact fr_some
theorem g_X51_wordOf_l8_fr  {k52 : Int → ga_D → ga_S} (hk52 : ∀ (x4 : Int) (D : ga_D), ga_fr 5191 5208 D (k52 x4 D)) : ∀ (n : Nat) (x0 x1 x2 x3 x4 x6 : Int) (D : ga_D), ga_fr 5191 5208 D (g_X51_wordOf_l8 n x0 x1 x2 x3 x4 x6 D k52) := by
  intro n
  induction n with
  | zero => intro x0 x1 x2 x3 x4 x6 D; exact fr_none
  | succ n ih =>
    intro x0 x1 x2 x3 x4 x6 D
    show ga_fr 5191 5208 D (ga_ck ((ga_K x2).1 = 1000) (ga_ck (0 ≤ x3 ∧ x3 < (ga_K x2).2) (if D x2 x3 ≤ x6 then (k52 x4 D) else (ga_ck (0 ≤ x3 ∧ x3 < (ga_K x2).2) (ga_ck ((ga_K x1).1 = 1000) (ga_ck (0 ≤ x3 ∧ x3 < (ga_K x1).2) (if 8 ≤ aw_w32 ((D x2 x3) - (D x1 x3)) then (k52 x4 D) else (ga_ck ((ga_K x0).1 = 1002) (ga_ck (0 ≤ x6 ∧ x6 < (ga_K x0).2) (ga_let (aw_w64 ((aw_w64 (256 * x4)) + (aw_and (D x0 x6) 255))) (fun v44 => ga_let (aw_w32 (x6 + 1)) (fun v46 => g_X51_wordOf_l8 n x0 x1 x2 x3 v44 v46 D k52))))))))))))
    refine fr_ck (fun ha12_0 => ?_)
    refine fr_ck (fun ha12 => ?_)
    refine fr_ite (fun c13 => ?_) (fun c13 => ?_)
    exact hk52 _ _ 
    refine fr_ck (fun ha18 => ?_)
    refine fr_ck (fun ha21_0 => ?_)
    refine fr_ck (fun ha21 => ?_)
    refine fr_ite (fun c25 => ?_) (fun c25 => ?_)
    exact hk52 _ _ 
    refine fr_ck (fun ha37_0 => ?_)
    refine fr_ck (fun ha37 => ?_)
    refine fr_let (fun v44 => ?_)
    refine fr_let (fun v46 => ?_)
    exact ih _ _ _ _ _ _ _ 
theorem g_X51_wordOf_fr {x0 x1 x2 x3 : Int} {D : ga_D} : ga_fr 5191 5208 D (g_X51_wordOf x0 x1 x2 x3 D) := by
  unfold g_X51_wordOf
  refine fr_ck (fun ha5_0 => ?_)
  refine fr_ck (fun ha5 => ?_)
  refine fr_let (fun v6 => ?_)
  refine g_X51_wordOf_l8_fr (fun x4 D52 => ?_) _ _ _ _ _ _ _ _ 
  exact fr_some
theorem g_X51_has_fr {x1 x2 : Int} {D : ga_D} : ga_fr 5191 5208 D (g_X51_has x1 x2 D) := by
  unfold g_X51_has
  refine fr_ite (fun c5 => ?_) (fun c5 => ?_)
  exact fr_some
  refine fr_bind (g_X51_wordOf_fr) (fun r21 D21 => ?_)
  refine fr_ite (fun c26 => ?_) (fun c26 => ?_)
  exact fr_some
  exact fr_some
theorem g_X51_numberOf_l26_fr  {k83 : Int → ga_D → ga_S} (hk83 : ∀ (x5 : Int) (D : ga_D), ga_fr 5191 5208 D (k83 x5 D)) : ∀ (n : Nat) (x0 x1 x3 x4 x5 x6 : Int) (D : ga_D), ga_fr 5191 5208 D (g_X51_numberOf_l26 n x0 x1 x3 x4 x5 x6 D k83) := by
  intro n
  induction n with
  | zero => intro x0 x1 x3 x4 x5 x6 D; exact fr_none
  | succ n ih =>
    intro x0 x1 x3 x4 x5 x6 D
    show ga_fr 5191 5208 D (if x4 ≤ x6 then (k83 x5 D) else (if x5 < 0 then (k83 x5 D) else (ga_ck ((ga_K x1).1 = 1000) (ga_ck (0 ≤ x3 ∧ x3 < (ga_K x1).2) (ga_ck ((ga_K x0).1 = 1002) (ga_ck (0 ≤ aw_w32 ((D x1 x3) + x6) ∧ aw_w32 ((D x1 x3) + x6) < (ga_K x0).2) (ga_let (aw_w32 ((D x0 (aw_w32 ((D x1 x3) + x6))) - 48)) (fun v49 => if v49 < 0 then (ga_let (aw_w32 (x6 + 1)) (fun v77 => g_X51_numberOf_l26 n x0 x1 x3 x4 (-1) v77 D k83)) else (if v49 ≤ 9 then (ga_let (aw_w32 ((aw_w32 (10 * x5)) + v49)) (fun v75 => ga_let (aw_w32 (x6 + 1)) (fun v77 => g_X51_numberOf_l26 n x0 x1 x3 x4 v75 v77 D k83))) else (ga_let (aw_w32 (x6 + 1)) (fun v77 => g_X51_numberOf_l26 n x0 x1 x3 x4 (-1) v77 D k83)))))))))))
    refine fr_ite (fun c30 => ?_) (fun c30 => ?_)
    exact hk83 _ _ 
    refine fr_ite (fun c35 => ?_) (fun c35 => ?_)
    exact hk83 _ _ 
    refine fr_ck (fun ha41_0 => ?_)
    refine fr_ck (fun ha41 => ?_)
    refine fr_ck (fun ha45_1 => ?_)
    refine fr_ck (fun ha45 => ?_)
    refine fr_let (fun v49 => ?_)
    refine fr_ite (fun c53 => ?_) (fun c53 => ?_)
    refine fr_let (fun v77 => ?_)
    exact ih _ _ _ _ _ _ _ 
    refine fr_ite (fun c60 => ?_) (fun c60 => ?_)
    refine fr_let (fun v75 => ?_)
    refine fr_let (fun v77 => ?_)
    exact ih _ _ _ _ _ _ _ 
    refine fr_let (fun v77 => ?_)
    exact ih _ _ _ _ _ _ _ 
theorem g_X51_numberOf_fr {x0 x1 x2 x3 : Int} {D : ga_D} : ga_fr 5191 5208 D (g_X51_numberOf x0 x1 x2 x3 D) := by
  unfold g_X51_numberOf
  refine fr_ck (fun ha2_0 => ?_)
  refine fr_ck (fun ha2 => ?_)
  refine fr_ck (fun ha5_1 => ?_)
  refine fr_ck (fun ha5 => ?_)
  refine fr_let (fun v7 => ?_)
  refine fr_ite (fun c13 => ?_) (fun c13 => ?_)
  refine g_X51_numberOf_l26_fr (fun x5 D83 => ?_) _ _ _ _ _ _ _ _ 
  exact fr_some
  refine g_X51_numberOf_l26_fr (fun x5 D83 => ?_) _ _ _ _ _ _ _ _ 
  exact fr_some
theorem g_X51_number_fr {x1 : Int} {D : ga_D} : ga_fr 5191 5208 D (g_X51_number x1 D) := by
  unfold g_X51_number
  refine fr_bind (g_X51_numberOf_fr) (fun r13 D13 => ?_)
  exact fr_some
theorem g_X51_nextItem_l2_fr  {k30 : Int → ga_D → ga_S} (hk30 : ∀ (x2 : Int) (D : ga_D), ga_fr 5191 5208 D (k30 x2 D)) : ∀ (n : Nat) (x2 : Int) (D : ga_D), ga_fr 5191 5208 D (g_X51_nextItem_l2 n x2 D k30) := by
  intro n
  induction n with
  | zero => intro x2 D; exact fr_none
  | succ n ih =>
    intro x2 D
    show ga_fr 5191 5208 D (ga_bind (g_X51_has x2 23162468 D) (fun r7 D7 => if r7 ≠ 0 then (k30 x2 D7) else (ga_bind (g_X51_has x2 23424612 D7) (fun r18 D18 => if r18 ≠ 0 then (k30 x2 D18) else (ga_let (aw_w32 (x2 + 1)) (fun v24 => g_X51_nextItem_l2 n v24 D18 k30))))))
    refine fr_bind (g_X51_has_fr) (fun r7 D7 => ?_)
    refine fr_ite (fun c10 => ?_) (fun c10 => ?_)
    exact hk30 _ _ 
    refine fr_bind (g_X51_has_fr) (fun r18 D18 => ?_)
    refine fr_ite (fun c21 => ?_) (fun c21 => ?_)
    exact hk30 _ _ 
    refine fr_let (fun v24 => ?_)
    exact ih _ _ 
theorem g_X51_nextItem_j30_fr  (x2 : Int) (D : ga_D) : ga_fr 5191 5208 D (g_X51_nextItem_j30 x2 D) := by
  unfold g_X51_nextItem_j30
  refine fr_bind (g_X51_has_fr) (fun r35 D35 => ?_)
  refine fr_ite (fun c38 => ?_) (fun c38 => ?_)
  exact fr_some
  exact fr_some
theorem g_X51_nextItem_fr {x1 : Int} {D : ga_D} : ga_fr 5191 5208 D (g_X51_nextItem x1 D) := by
  unfold g_X51_nextItem
  refine g_X51_nextItem_l2_fr (fun x2 D30 => ?_) _ _ _ 
  refine g_X51_nextItem_j30_fr _ _ 
theorem g_X51_hasTests_j61_fr  {k12 : Int → Int → Int → Int → ga_D → ga_S} (hk12 : ∀ (x2 x3 x4 x5 : Int) (D : ga_D), ga_fr 5191 5208 D (k12 x2 x3 x4 x5 D)) (x2 x3 x4 x5 : Int) (D : ga_D) : ga_fr 5191 5208 D (g_X51_hasTests_j61 x2 x3 x4 x5 D k12) := by
  unfold g_X51_hasTests_j61
  refine fr_bind (g_X51_nextItem_fr) (fun r64 D64 => ?_)
  exact hk12 _ _ _ _ _ 
theorem g_X51_hasTests_j59_fr  {k12 : Int → Int → Int → Int → ga_D → ga_S} (hk12 : ∀ (x2 x3 x4 x5 : Int) (D : ga_D), ga_fr 5191 5208 D (k12 x2 x3 x4 x5 D)) (x2 x3 x5 s0 : Int) (D : ga_D) : ga_fr 5191 5208 D (g_X51_hasTests_j59 x2 x3 x5 s0 D k12) := by
  unfold g_X51_hasTests_j59
  refine g_X51_hasTests_j61_fr (fun x2 x3 x4 x5 D12 => ?_) _ _ _ _ _ 
  exact hk12 _ _ _ _ _ 
theorem g_X51_hasTests_j58_fr  {k12 : Int → Int → Int → Int → ga_D → ga_S} (hk12 : ∀ (x2 x3 x4 x5 : Int) (D : ga_D), ga_fr 5191 5208 D (k12 x2 x3 x4 x5 D)) (x2 x3 x5 : Int) (D : ga_D) : ga_fr 5191 5208 D (g_X51_hasTests_j58 x2 x3 x5 D k12) := by
  unfold g_X51_hasTests_j58
  refine g_X51_hasTests_j59_fr (fun x2 x3 x4 x5 D12 => ?_) _ _ _ _ _ 
  exact hk12 _ _ _ _ _ 
theorem g_X51_hasTests_l12_fr  {k72 : Int → Int → Int → ga_D → ga_S} (hk72 : ∀ (x2 x3 x4 : Int) (D : ga_D), ga_fr 5191 5208 D (k72 x2 x3 x4 D)) : ∀ (n : Nat) (x2 x3 x4 x5 : Int) (D : ga_D), ga_fr 5191 5208 D (g_X51_hasTests_l12 n x2 x3 x4 x5 D k72) := by
  intro n
  induction n with
  | zero => intro x2 x3 x4 x5 D; exact fr_none
  | succ n ih =>
    intro x2 x3 x4 x5 D
    show ga_fr 5191 5208 D (if x5 = (-1) then (k72 x2 x3 x4 D) else (ga_bind (g_X51_has x5 6247773044 D) (fun r24 D24 => if r24 = 0 then (g_X51_hasTests_j61 x2 x3 x4 x5 D24 (fun x2 x3 x4 x5 D12 => g_X51_hasTests_l12 n x2 x3 x4 x5 D12 k72)) else (if x4 = 0 then (g_X51_hasTests_j58 x2 1 x5 D24 (fun x2 x3 x4 x5 D12 => g_X51_hasTests_l12 n x2 x3 x4 x5 D12 k72)) else (ga_bind (g_X51_number (aw_w32 (x5 + 1)) D24) (fun r46 D46 => ga_ck (0 ≤ r46 ∧ r46 < 8) (if D46 5204 r46 = (-1) then (g_X51_hasTests_j58 x2 1 x5 D46 (fun x2 x3 x4 x5 D12 => g_X51_hasTests_l12 n x2 x3 x4 x5 D12 k72)) else (g_X51_hasTests_j59 x2 1 x5 1 D46 (fun x2 x3 x4 x5 D12 => g_X51_hasTests_l12 n x2 x3 x4 x5 D12 k72)))))))))
    refine fr_ite (fun c15 => ?_) (fun c15 => ?_)
    exact hk72 _ _ _ _ 
    refine fr_bind (g_X51_has_fr) (fun r24 D24 => ?_)
    refine fr_ite (fun c27 => ?_) (fun c27 => ?_)
    refine g_X51_hasTests_j61_fr (fun x2 x3 x4 x5 D12 => ?_) _ _ _ _ _ 
    exact ih _ _ _ _ _ 
    refine fr_ite (fun c34 => ?_) (fun c34 => ?_)
    refine g_X51_hasTests_j58_fr (fun x2 x3 x4 x5 D12 => ?_) _ _ _ _ 
    exact ih _ _ _ _ _ 
    refine fr_bind (g_X51_number_fr) (fun r46 D46 => ?_)
    refine fr_ck (fun ha49 => ?_)
    refine fr_ite (fun c51 => ?_) (fun c51 => ?_)
    refine g_X51_hasTests_j58_fr (fun x2 x3 x4 x5 D12 => ?_) _ _ _ _ 
    exact ih _ _ _ _ _ 
    refine g_X51_hasTests_j59_fr (fun x2 x3 x4 x5 D12 => ?_) _ _ _ _ _ 
    exact ih _ _ _ _ _ 
theorem g_X51_hasTests_fr {x1 x2 : Int} {D : ga_D} : ga_fr 5191 5208 D (g_X51_hasTests x1 x2 D) := by
  unfold g_X51_hasTests
  refine fr_bind (g_X51_firstItem_fr) (fun r7 D7 => ?_)
  refine g_X51_hasTests_l12_fr (fun x2 x3 x4 D72 => ?_) _ _ _ _ _ _ 
  refine fr_ite (fun c73 => ?_) (fun c73 => ?_)
  exact fr_some
  refine fr_ite (fun c78 => ?_) (fun c78 => ?_)
  exact fr_some
  refine fr_ite (fun c82 => ?_) (fun c82 => ?_)
  exact fr_some
  exact fr_some
theorem g_X51_classOf_fr {x1 : Int} {D : ga_D} : ga_fr 5191 5208 D (g_X51_classOf x1 D) := by
  unfold g_X51_classOf
  refine fr_ck (fun ha6 => ?_)
  refine fr_bind (g_X51_number_fr) (fun r9 D9 => ?_)
  exact fr_some
theorem g_X51_isPassed_l15_fr  {k76 : Int → ga_D → ga_S} (hk76 : ∀ (x2 : Int) (D : ga_D), ga_fr 5191 5208 D (k76 x2 D)) : ∀ (n : Nat) (x1 x2 x3 : Int) (D : ga_D), ga_fr 5191 5208 D (g_X51_isPassed_l15 n x1 x2 x3 D k76) := by
  intro n
  induction n with
  | zero => intro x1 x2 x3 D; exact fr_none
  | succ n ih =>
    intro x1 x2 x3 D
    show ga_fr 5191 5208 D (if D 5191 11 ≤ x3 then (k76 x2 D) else (if x2 ≠ 0 then (ga_let (aw_w32 (x3 + 1)) (fun v70 => g_X51_isPassed_l15 n x1 1 v70 D k76)) else (ga_ck (0 ≤ x3 ∧ x3 < 60) (ga_ck (0 ≤ x1 ∧ x1 < 60) (if D 5199 x3 ≠ D 5199 x1 then (ga_let (aw_w32 (x3 + 1)) (fun v70 => g_X51_isPassed_l15 n x1 0 v70 D k76)) else (ga_bind (g_X51_classOf x3 D) (fun r44 D44 => ga_bind (g_X51_classOf x1 D44) (fun r49 D49 => if r44 ≠ r49 then (ga_let (aw_w32 (x3 + 1)) (fun v70 => g_X51_isPassed_l15 n x1 0 v70 D49 k76)) else (ga_bind (g_X51_hasTests x3 1 D49) (fun r58 D58 => if r58 = 0 then (ga_let (aw_w32 (x3 + 1)) (fun v70 => g_X51_isPassed_l15 n x1 0 v70 D58 k76)) else (ga_let (aw_w32 (x3 + 1)) (fun v70 => g_X51_isPassed_l15 n x1 1 v70 D58 k76))))))))))))
    refine fr_ite (fun c20 => ?_) (fun c20 => ?_)
    exact hk76 _ _ 
    refine fr_ite (fun c24 => ?_) (fun c24 => ?_)
    refine fr_let (fun v70 => ?_)
    exact ih _ _ _ _ 
    refine fr_ck (fun ha32 => ?_)
    refine fr_ck (fun ha38 => ?_)
    refine fr_ite (fun c39 => ?_) (fun c39 => ?_)
    refine fr_let (fun v70 => ?_)
    exact ih _ _ _ _ 
    refine fr_bind (g_X51_classOf_fr) (fun r44 D44 => ?_)
    refine fr_bind (g_X51_classOf_fr) (fun r49 D49 => ?_)
    refine fr_ite (fun c52 => ?_) (fun c52 => ?_)
    refine fr_let (fun v70 => ?_)
    exact ih _ _ _ _ 
    refine fr_bind (g_X51_hasTests_fr) (fun r58 D58 => ?_)
    refine fr_ite (fun c61 => ?_) (fun c61 => ?_)
    refine fr_let (fun v70 => ?_)
    exact ih _ _ _ _ 
    refine fr_let (fun v70 => ?_)
    exact ih _ _ _ _ 
theorem g_X51_isPassed_fr {x1 : Int} {D : ga_D} : ga_fr 5191 5208 D (g_X51_isPassed x1 D) := by
  unfold g_X51_isPassed
  refine fr_bind (g_X51_hasTests_fr) (fun r3 D3 => ?_)
  refine fr_ite (fun c6 => ?_) (fun c6 => ?_)
  refine g_X51_isPassed_l15_fr (fun x2 D76 => ?_) _ _ _ _ _ 
  refine fr_ck (fun hr77 => ?_)
  exact fr_some
  exact fr_some
theorem g_X51_stateOfTest_j49_fr  (x1 s0 : Int) (D : ga_D) : ga_fr 5191 5208 D (g_X51_stateOfTest_j49 x1 s0 D) := by
  unfold g_X51_stateOfTest_j49
  refine fr_bind (g_X51_has_fr) (fun r56 D56 => ?_)
  refine fr_ite (fun c59 => ?_) (fun c59 => ?_)
  exact fr_some
  exact fr_some
theorem g_X51_stateOfTest_fr {x1 : Int} {D : ga_D} : ga_fr 5191 5208 D (g_X51_stateOfTest x1 D) := by
  unfold g_X51_stateOfTest
  refine fr_bind (g_X51_number_fr) (fun r4 D4 => ?_)
  refine fr_ck (fun ha13 => ?_)
  refine fr_ite (fun c15 => ?_) (fun c15 => ?_)
  refine fr_ck (fun ha33 => ?_)
  refine fr_bind (g_X51_number_fr) (fun r38 D38 => ?_)
  refine fr_ite (fun c41 => ?_) (fun c41 => ?_)
  refine g_X51_stateOfTest_j49_fr _ _ _ 
  refine g_X51_stateOfTest_j49_fr _ _ _ 
  refine fr_upd (by decide) (fun D23 => ?_)
  exact fr_some
theorem g_X51_stateOfHolds_l14_fr  {k91 : Int → Int → ga_D → ga_S} (hk91 : ∀ (x3 x4 : Int) (D : ga_D), ga_fr 5191 5208 D (k91 x3 x4 D)) : ∀ (n : Nat) (x2 x3 x4 x5 : Int) (D : ga_D), ga_fr 5191 5208 D (g_X51_stateOfHolds_l14 n x2 x3 x4 x5 D k91) := by
  intro n
  induction n with
  | zero => intro x2 x3 x4 x5 D; exact fr_none
  | succ n ih =>
    intro x2 x3 x4 x5 D
    show ga_fr 5191 5208 D (if x2 ≤ x5 then (k91 x3 x4 D) else (ga_ck (0 ≤ x5 ∧ x5 < 60) (ga_ck (0 ≤ x2 ∧ x2 < 60) (if D 5199 x5 ≠ D 5199 x2 then (ga_let (aw_w32 (x5 + 1)) (fun v85 => g_X51_stateOfHolds_l14 n x2 x3 x4 v85 D k91)) else (ga_bind (g_X51_classOf x5 D) (fun r39 D39 => if r39 ≠ x3 then (ga_let (aw_w32 (x5 + 1)) (fun v85 => g_X51_stateOfHolds_l14 n x2 x3 x4 v85 D39 k91)) else (ga_ck (0 ≤ x5 ∧ x5 < 60) (if D39 5205 x5 ≠ 1 then (ga_ck (0 ≤ x5 ∧ x5 < 60) (if D39 5205 x5 ≠ 2 then (ga_let (aw_w32 (x5 + 1)) (fun v85 => g_X51_stateOfHolds_l14 n x2 x3 x4 v85 D39 k91)) else (if x4 ≠ 0 then (ga_let (aw_w32 (x5 + 1)) (fun v85 => g_X51_stateOfHolds_l14 n x2 x3 x4 v85 D39 k91)) else (ga_let (aw_w32 (x5 + 1)) (fun v85 => g_X51_stateOfHolds_l14 n x2 x3 2 v85 D39 k91))))) else (ga_let (aw_w32 (x5 + 1)) (fun v85 => g_X51_stateOfHolds_l14 n x2 x3 1 v85 D39 k91))))))))))
    refine fr_ite (fun c17 => ?_) (fun c17 => ?_)
    exact hk91 _ _ _ 
    refine fr_ck (fun ha26 => ?_)
    refine fr_ck (fun ha32 => ?_)
    refine fr_ite (fun c33 => ?_) (fun c33 => ?_)
    refine fr_let (fun v85 => ?_)
    exact ih _ _ _ _ _ 
    refine fr_bind (g_X51_classOf_fr) (fun r39 D39 => ?_)
    refine fr_ite (fun c43 => ?_) (fun c43 => ?_)
    refine fr_let (fun v85 => ?_)
    exact ih _ _ _ _ _ 
    refine fr_ck (fun ha52 => ?_)
    refine fr_ite (fun c54 => ?_) (fun c54 => ?_)
    refine fr_ck (fun ha67 => ?_)
    refine fr_ite (fun c69 => ?_) (fun c69 => ?_)
    refine fr_let (fun v85 => ?_)
    exact ih _ _ _ _ _ 
    refine fr_ite (fun c74 => ?_) (fun c74 => ?_)
    refine fr_let (fun v85 => ?_)
    exact ih _ _ _ _ _ 
    refine fr_let (fun v85 => ?_)
    exact ih _ _ _ _ _ 
    refine fr_let (fun v85 => ?_)
    exact ih _ _ _ _ _ 
theorem g_X51_stateOfHolds_fr {x1 x2 : Int} {D : ga_D} : ga_fr 5191 5208 D (g_X51_stateOfHolds x1 x2 D) := by
  unfold g_X51_stateOfHolds
  refine fr_bind (g_X51_number_fr) (fun r4 D4 => ?_)
  refine g_X51_stateOfHolds_l14_fr (fun x3 x4 D91 => ?_) _ _ _ _ _ _ 
  refine fr_upd (by decide) (fun D97 => ?_)
  exact fr_some
theorem g_X51_add_j264_fr  {k15 : Int → Int → Int → ga_D → ga_S} (hk15 : ∀ (x2 x3 x4 : Int) (D : ga_D), ga_fr 5191 5208 D (k15 x2 x3 x4 D)) (x2 x3 x4 x5 x13 s0 : Int) (D : ga_D) : ga_fr 5191 5208 D (g_X51_add_j264 x2 x3 x4 x5 x13 s0 D k15) := by
  unfold g_X51_add_j264
  refine fr_ite (fun c266 => ?_) (fun c266 => ?_)
  refine fr_upd (by decide) (fun D278 => ?_)
  exact hk15 _ _ _ _ 
  refine fr_upd (by decide) (fun D278 => ?_)
  exact hk15 _ _ _ _ 
theorem g_X51_add_j230_fr  {k15 : Int → Int → Int → ga_D → ga_S} (hk15 : ∀ (x2 x3 x4 : Int) (D : ga_D), ga_fr 5191 5208 D (k15 x2 x3 x4 D)) (x2 x3 x4 x5 x6 x7 x9 s0 : Int) (D : ga_D) : ga_fr 5191 5208 D (g_X51_add_j230 x2 x3 x4 x5 x6 x7 x9 s0 D k15) := by
  unfold g_X51_add_j230
  refine fr_ck (fun hz241 => ?_)
  refine fr_let (fun v242 => ?_)
  refine fr_ite (fun c251 => ?_) (fun c251 => ?_)
  refine g_X51_add_j264_fr (fun x2 x3 x4 D15 => ?_) _ _ _ _ _ _ _ 
  exact hk15 _ _ _ _ 
  refine fr_ite (fun c257 => ?_) (fun c257 => ?_)
  refine g_X51_add_j264_fr (fun x2 x3 x4 D15 => ?_) _ _ _ _ _ _ _ 
  exact hk15 _ _ _ _ 
  refine fr_upd (by decide) (fun D278 => ?_)
  exact hk15 _ _ _ _ 
theorem g_X51_add_j213_fr  {k15 : Int → Int → Int → ga_D → ga_S} (hk15 : ∀ (x2 x3 x4 : Int) (D : ga_D), ga_fr 5191 5208 D (k15 x2 x3 x4 D)) (x2 x3 x4 x5 x6 x7 x8 x9 s0 : Int) (D : ga_D) : ga_fr 5191 5208 D (g_X51_add_j213 x2 x3 x4 x5 x6 x7 x8 x9 s0 D k15) := by
  unfold g_X51_add_j213
  refine fr_ite (fun c221 => ?_) (fun c221 => ?_)
  refine g_X51_add_j230_fr (fun x2 x3 x4 D15 => ?_) _ _ _ _ _ _ _ _ _ 
  exact hk15 _ _ _ _ 
  refine g_X51_add_j230_fr (fun x2 x3 x4 D15 => ?_) _ _ _ _ _ _ _ _ _ 
  exact hk15 _ _ _ _ 
theorem g_X51_add_j179_fr  {k15 : Int → Int → Int → ga_D → ga_S} (hk15 : ∀ (x2 x3 x4 : Int) (D : ga_D), ga_fr 5191 5208 D (k15 x2 x3 x4 D)) (x2 x3 x4 x5 x6 x7 x8 x9 x10 s0 : Int) (D : ga_D) : ga_fr 5191 5208 D (g_X51_add_j179 x2 x3 x4 x5 x6 x7 x8 x9 x10 s0 D k15) := by
  unfold g_X51_add_j179
  refine fr_upd (by decide) (fun D179 => ?_)
  refine fr_ite (fun c185 => ?_) (fun c185 => ?_)
  exact hk15 _ _ _ _ 
  refine fr_ite (fun c191 => ?_) (fun c191 => ?_)
  refine fr_ck (fun ha211 => ?_)
  refine g_X51_add_j213_fr (fun x2 x3 x4 D15 => ?_) _ _ _ _ _ _ _ _ _ _ 
  exact hk15 _ _ _ _ 
  refine fr_ck (fun ha200 => ?_)
  refine g_X51_add_j213_fr (fun x2 x3 x4 D15 => ?_) _ _ _ _ _ _ _ _ _ _ 
  exact hk15 _ _ _ _ 
theorem g_X51_add_j159_fr  {k15 : Int → Int → Int → ga_D → ga_S} (hk15 : ∀ (x2 x3 x4 : Int) (D : ga_D), ga_fr 5191 5208 D (k15 x2 x3 x4 D)) (x2 x3 x4 x5 x6 x7 x8 x9 s0 : Int) (D : ga_D) : ga_fr 5191 5208 D (g_X51_add_j159 x2 x3 x4 x5 x6 x7 x8 x9 s0 D k15) := by
  unfold g_X51_add_j159
  refine fr_ite (fun c167 => ?_) (fun c167 => ?_)
  refine g_X51_add_j179_fr (fun x2 x3 x4 D15 => ?_) _ _ _ _ _ _ _ _ _ _ _ 
  exact hk15 _ _ _ _ 
  refine g_X51_add_j179_fr (fun x2 x3 x4 D15 => ?_) _ _ _ _ _ _ _ _ _ _ _ 
  exact hk15 _ _ _ _ 
theorem g_X51_add_j129_fr  {k15 : Int → Int → Int → ga_D → ga_S} (hk15 : ∀ (x2 x3 x4 : Int) (D : ga_D), ga_fr 5191 5208 D (k15 x2 x3 x4 D)) (x2 x3 x4 x5 x6 x7 x8 x9 : Int) (D : ga_D) : ga_fr 5191 5208 D (g_X51_add_j129 x2 x3 x4 x5 x6 x7 x8 x9 D k15) := by
  unfold g_X51_add_j129
  refine fr_ck (fun ha135 => ?_)
  refine fr_ite (fun c136 => ?_) (fun c136 => ?_)
  refine fr_ite (fun c146 => ?_) (fun c146 => ?_)
  refine g_X51_add_j159_fr (fun x2 x3 x4 D15 => ?_) _ _ _ _ _ _ _ _ _ _ 
  exact hk15 _ _ _ _ 
  refine g_X51_add_j159_fr (fun x2 x3 x4 D15 => ?_) _ _ _ _ _ _ _ _ _ _ 
  exact hk15 _ _ _ _ 
  refine g_X51_add_j159_fr (fun x2 x3 x4 D15 => ?_) _ _ _ _ _ _ _ _ _ _ 
  exact hk15 _ _ _ _ 
theorem g_X51_add_j104_fr  {k15 : Int → Int → Int → ga_D → ga_S} (hk15 : ∀ (x2 x3 x4 : Int) (D : ga_D), ga_fr 5191 5208 D (k15 x2 x3 x4 D)) (x2 x3 x4 x5 x6 x7 x8 x9 : Int) (D : ga_D) : ga_fr 5191 5208 D (g_X51_add_j104 x2 x3 x4 x5 x6 x7 x8 x9 D k15) := by
  unfold g_X51_add_j104
  refine fr_bind (g_X51_has_fr) (fun r110 D110 => ?_)
  refine fr_ite (fun c113 => ?_) (fun c113 => ?_)
  refine g_X51_add_j129_fr (fun x2 x3 x4 D15 => ?_) _ _ _ _ _ _ _ _ _ 
  exact hk15 _ _ _ _ 
  refine fr_bind (g_X51_number_fr) (fun r121 D121 => ?_)
  refine fr_let (fun v126 => ?_)
  refine g_X51_add_j129_fr (fun x2 x3 x4 D15 => ?_) _ _ _ _ _ _ _ _ _ 
  exact hk15 _ _ _ _ 
theorem g_X51_add_j39_fr  {k15 : Int → Int → Int → ga_D → ga_S} (hk15 : ∀ (x2 x3 x4 : Int) (D : ga_D), ga_fr 5191 5208 D (k15 x2 x3 x4 D)) (x2 x3 x4 : Int) (D : ga_D) : ga_fr 5191 5208 D (g_X51_add_j39 x2 x3 x4 D k15) := by
  unfold g_X51_add_j39
  refine fr_bind (g_X51_has_fr) (fun r45 D45 => ?_)
  refine fr_bind (g_X51_number_fr) (fun r55 D55 => ?_)
  refine fr_bind (g_X51_number_fr) (fun r65 D65 => ?_)
  refine fr_let (fun v70 => ?_)
  refine fr_bind (g_X51_has_fr) (fun r85 D85 => ?_)
  refine fr_ite (fun c88 => ?_) (fun c88 => ?_)
  refine g_X51_add_j104_fr (fun x2 x3 x4 D15 => ?_) _ _ _ _ _ _ _ _ _ 
  exact hk15 _ _ _ _ 
  refine fr_bind (g_X51_number_fr) (fun r96 D96 => ?_)
  refine fr_let (fun v101 => ?_)
  refine g_X51_add_j104_fr (fun x2 x3 x4 D15 => ?_) _ _ _ _ _ _ _ _ _ 
  exact hk15 _ _ _ _ 
theorem g_X51_add_l15_fr  {k284 : Int → ga_D → ga_S} (hk284 : ∀ (x4 : Int) (D : ga_D), ga_fr 5191 5208 D (k284 x4 D)) : ∀ (n : Nat) (x2 x3 x4 : Int) (D : ga_D), ga_fr 5191 5208 D (g_X51_add_l15 n x2 x3 x4 D k284) := by
  intro n
  induction n with
  | zero => intro x2 x3 x4 D; exact fr_none
  | succ n ih =>
    intro x2 x3 x4 D
    show ga_fr 5191 5208 D (ga_bind (g_X51_has x4 6181123443 D) (fun r21 D21 => if r21 ≠ 0 then (g_X51_add_j39 x2 x3 x4 D21 (fun x2 x3 x4 D15 => g_X51_add_l15 n x2 x3 x4 D15 k284)) else (ga_bind (g_X51_has x4 1569431909747 D21) (fun r33 D33 => if r33 = 0 then (k284 x4 D33) else (g_X51_add_j39 x2 x3 x4 D33 (fun x2 x3 x4 D15 => g_X51_add_l15 n x2 x3 x4 D15 k284))))))
    refine fr_bind (g_X51_has_fr) (fun r21 D21 => ?_)
    refine fr_ite (fun c24 => ?_) (fun c24 => ?_)
    refine g_X51_add_j39_fr (fun x2 x3 x4 D15 => ?_) _ _ _ _ 
    exact ih _ _ _ _ 
    refine fr_bind (g_X51_has_fr) (fun r33 D33 => ?_)
    refine fr_ite (fun c36 => ?_) (fun c36 => ?_)
    exact hk284 _ _ 
    refine g_X51_add_j39_fr (fun x2 x3 x4 D15 => ?_) _ _ _ _ 
    exact ih _ _ _ _ 
theorem g_X51_add_fr {x1 x2 x3 : Int} {D : ga_D} : ga_fr 5191 5208 D (g_X51_add x1 x2 x3 D) := by
  unfold g_X51_add
  refine fr_upd (by decide) (fun D2 => ?_)
  refine fr_upd (by decide) (fun D7 => ?_)
  refine fr_let (fun v13 => ?_)
  refine g_X51_add_l15_fr (fun x4 D284 => ?_) _ _ _ _ _ 
  refine fr_upd (by decide) (fun D287 => ?_)
  exact fr_some
theorem g_X51_stateOfSum_j44_fr  (x2 s0 s1 : Int) (D : ga_D) : ga_fr 5191 5208 D (g_X51_stateOfSum_j44 x2 s0 s1 D) := by
  unfold g_X51_stateOfSum_j44
  refine fr_bind (g_X51_add_fr) (fun r45 D45 => ?_)
  refine fr_bind (g_X51_number_fr) (fun r55 D55 => ?_)
  refine fr_ite (fun c60 => ?_) (fun c60 => ?_)
  refine fr_ite (fun c88 => ?_) (fun c88 => ?_)
  exact fr_some
  exact fr_some
  refine fr_ite (fun c70 => ?_) (fun c70 => ?_)
  exact fr_some
  exact fr_some
theorem g_X51_stateOfSum_fr {x1 : Int} {D : ga_D} : ga_fr 5191 5208 D (g_X51_stateOfSum x1 D) := by
  unfold g_X51_stateOfSum
  refine fr_bind (g_X51_add_fr) (fun r4 D4 => ?_)
  refine fr_ite (fun c12 => ?_) (fun c12 => ?_)
  refine fr_bind (g_X51_has_fr) (fun r25 D25 => ?_)
  refine fr_ite (fun c36 => ?_) (fun c36 => ?_)
  refine g_X51_stateOfSum_j44_fr _ _ _ _ 
  refine g_X51_stateOfSum_j44_fr _ _ _ _ 
  exact fr_some
theorem g_X51_holds_l4_fr  {k38 : Int → ga_D → ga_S} (hk38 : ∀ (x2 : Int) (D : ga_D), ga_fr 5191 5208 D (k38 x2 D)) : ∀ (n : Nat) (x1 x2 x3 : Int) (D : ga_D), ga_fr 5191 5208 D (g_X51_holds_l4 n x1 x2 x3 D k38) := by
  intro n
  induction n with
  | zero => intro x1 x2 x3 D; exact fr_none
  | succ n ih =>
    intro x1 x2 x3 D
    show ga_fr 5191 5208 D (if D 5191 23 ≤ x3 then (k38 x2 D) else (if x2 ≠ 0 then (ga_let (aw_w32 (x3 + 1)) (fun v32 => g_X51_holds_l4 n x1 1 v32 D k38)) else (ga_ck (0 ≤ x3 ∧ x3 < 20) (if D 5207 x3 ≠ x1 then (ga_let (aw_w32 (x3 + 1)) (fun v32 => g_X51_holds_l4 n x1 0 v32 D k38)) else (ga_let (aw_w32 (x3 + 1)) (fun v32 => g_X51_holds_l4 n x1 1 v32 D k38))))))
    refine fr_ite (fun c9 => ?_) (fun c9 => ?_)
    exact hk38 _ _ 
    refine fr_ite (fun c13 => ?_) (fun c13 => ?_)
    refine fr_let (fun v32 => ?_)
    exact ih _ _ _ _ 
    refine fr_ck (fun ha21 => ?_)
    refine fr_ite (fun c23 => ?_) (fun c23 => ?_)
    refine fr_let (fun v32 => ?_)
    exact ih _ _ _ _ 
    refine fr_let (fun v32 => ?_)
    exact ih _ _ _ _ 
theorem g_X51_holds_fr {x1 : Int} {D : ga_D} : ga_fr 5191 5208 D (g_X51_holds x1 D) := by
  unfold g_X51_holds
  refine g_X51_holds_l4_fr (fun x2 D38 => ?_) _ _ _ _ _ 
  refine fr_ck (fun hr39 => ?_)
  exact fr_some
theorem g_X51_judge_j132_fr  {k31 : Int → Int → Int → ga_D → ga_S} (hk31 : ∀ (x1 x2 x3 : Int) (D : ga_D), ga_fr 5191 5208 D (k31 x1 x2 x3 D)) (x1 x3 s0 : Int) (D : ga_D) : ga_fr 5191 5208 D (g_X51_judge_j132 x1 x3 s0 D k31) := by
  unfold g_X51_judge_j132
  refine fr_bind (g_X51_nextItem_fr) (fun r135 D135 => ?_)
  exact hk31 _ _ _ _ 
theorem g_X51_judge_j117_fr  {k31 : Int → Int → Int → ga_D → ga_S} (hk31 : ∀ (x1 x2 x3 : Int) (D : ga_D), ga_fr 5191 5208 D (k31 x1 x2 x3 D)) (x1 x3 : Int) (D : ga_D) : ga_fr 5191 5208 D (g_X51_judge_j117 x1 x3 D k31) := by
  unfold g_X51_judge_j117
  refine g_X51_judge_j132_fr (fun x1 x2 x3 D31 => ?_) _ _ _ _ 
  exact hk31 _ _ _ _ 
theorem g_X51_judge_j108_fr  {k31 : Int → Int → Int → ga_D → ga_S} (hk31 : ∀ (x1 x2 x3 : Int) (D : ga_D), ga_fr 5191 5208 D (k31 x1 x2 x3 D)) (x1 x2 x3 x4 : Int) (D : ga_D) : ga_fr 5191 5208 D (g_X51_judge_j108 x1 x2 x3 x4 D k31) := by
  unfold g_X51_judge_j108
  refine fr_ite (fun c110 => ?_) (fun c110 => ?_)
  refine g_X51_judge_j117_fr (fun x1 x2 x3 D31 => ?_) _ _ _ 
  exact hk31 _ _ _ _ 
  refine fr_ite (fun c114 => ?_) (fun c114 => ?_)
  refine fr_ite (fun c124 => ?_) (fun c124 => ?_)
  refine g_X51_judge_j132_fr (fun x1 x2 x3 D31 => ?_) _ _ _ _ 
  exact hk31 _ _ _ _ 
  refine g_X51_judge_j132_fr (fun x1 x2 x3 D31 => ?_) _ _ _ _ 
  exact hk31 _ _ _ _ 
  refine g_X51_judge_j117_fr (fun x1 x2 x3 D31 => ?_) _ _ _ 
  exact hk31 _ _ _ _ 
theorem g_X51_judge_j80_fr  {k31 : Int → Int → Int → ga_D → ga_S} (hk31 : ∀ (x1 x2 x3 : Int) (D : ga_D), ga_fr 5191 5208 D (k31 x1 x2 x3 D)) (x1 x2 x3 s0 : Int) (D : ga_D) : ga_fr 5191 5208 D (g_X51_judge_j80 x1 x2 x3 s0 D k31) := by
  unfold g_X51_judge_j80
  refine fr_ite (fun c85 => ?_) (fun c85 => ?_)
  refine g_X51_judge_j108_fr (fun x1 x2 x3 D31 => ?_) _ _ _ _ _ 
  exact hk31 _ _ _ _ 
  refine fr_ck (fun ha93 => ?_)
  refine fr_ite (fun c95 => ?_) (fun c95 => ?_)
  refine g_X51_judge_j108_fr (fun x1 x2 x3 D31 => ?_) _ _ _ _ _ 
  exact hk31 _ _ _ _ 
  refine fr_ck (fun ha107 => ?_)
  refine fr_upd (by decide) (fun D107 => ?_)
  refine g_X51_judge_j108_fr (fun x1 x2 x3 D31 => ?_) _ _ _ _ _ 
  exact hk31 _ _ _ _ 
theorem g_X51_judge_l31_fr  {k142 : Int → Int → ga_D → ga_S} (hk142 : ∀ (x1 x2 : Int) (D : ga_D), ga_fr 5191 5208 D (k142 x1 x2 D)) : ∀ (n : Nat) (x1 x2 x3 : Int) (D : ga_D), ga_fr 5191 5208 D (g_X51_judge_l31 n x1 x2 x3 D k142) := by
  intro n
  induction n with
  | zero => intro x1 x2 x3 D; exact fr_none
  | succ n ih =>
    intro x1 x2 x3 D
    show ga_fr 5191 5208 D (if x3 = (-1) then (k142 x1 x2 D) else (ga_bind (g_X51_has x3 6247773044 D) (fun r41 D41 => if r41 = 0 then (ga_bind (g_X51_has x3 1548057601139 D41) (fun r60 D60 => if r60 = 0 then (ga_bind (g_X51_stateOfSum x3 D60) (fun r77 D77 => g_X51_judge_j80 x1 x2 x3 r77 D77 (fun x1 x2 x3 D31 => g_X51_judge_l31 n x1 x2 x3 D31 k142))) else (ga_bind (g_X51_stateOfHolds x3 x1 D60) (fun r69 D69 => g_X51_judge_j80 x1 x2 x3 r69 D69 (fun x1 x2 x3 D31 => g_X51_judge_l31 n x1 x2 x3 D31 k142))))) else (ga_bind (g_X51_stateOfTest x3 D41) (fun r49 D49 => g_X51_judge_j80 x1 x2 x3 r49 D49 (fun x1 x2 x3 D31 => g_X51_judge_l31 n x1 x2 x3 D31 k142))))))
    refine fr_ite (fun c33 => ?_) (fun c33 => ?_)
    exact hk142 _ _ _ 
    refine fr_bind (g_X51_has_fr) (fun r41 D41 => ?_)
    refine fr_ite (fun c44 => ?_) (fun c44 => ?_)
    refine fr_bind (g_X51_has_fr) (fun r60 D60 => ?_)
    refine fr_ite (fun c63 => ?_) (fun c63 => ?_)
    refine fr_bind (g_X51_stateOfSum_fr) (fun r77 D77 => ?_)
    refine g_X51_judge_j80_fr (fun x1 x2 x3 D31 => ?_) _ _ _ _ _ 
    exact ih _ _ _ _ 
    refine fr_bind (g_X51_stateOfHolds_fr) (fun r69 D69 => ?_)
    refine g_X51_judge_j80_fr (fun x1 x2 x3 D31 => ?_) _ _ _ _ _ 
    exact ih _ _ _ _ 
    refine fr_bind (g_X51_stateOfTest_fr) (fun r49 D49 => ?_)
    refine g_X51_judge_j80_fr (fun x1 x2 x3 D31 => ?_) _ _ _ _ _ 
    exact ih _ _ _ _ 
theorem g_X51_judge_fr {x1 : Int} {D : ga_D} : ga_fr 5191 5208 D (g_X51_judge x1 D) := by
  unfold g_X51_judge
  refine fr_bind (g_X51_isPassed_fr) (fun r2 D2 => ?_)
  refine fr_ite (fun c5 => ?_) (fun c5 => ?_)
  refine fr_ck (fun ha24 => ?_)
  refine fr_upd (by decide) (fun D24 => ?_)
  refine fr_bind (g_X51_firstItem_fr) (fun r27 D27 => ?_)
  refine g_X51_judge_l31_fr (fun x1 x2 D142 => ?_) _ _ _ _ _ 
  refine fr_ck (fun ha148 => ?_)
  refine fr_upd (by decide) (fun D148 => ?_)
  refine fr_ite (fun c151 => ?_) (fun c151 => ?_)
  exact fr_some
  refine fr_bind (g_X51_classOf_fr) (fun r157 D157 => ?_)
  refine fr_bind (g_X51_holds_fr) (fun r160 D160 => ?_)
  refine fr_ite (fun c163 => ?_) (fun c163 => ?_)
  exact fr_some
  refine fr_bind (g_X51_classOf_fr) (fun r176 D176 => ?_)
  refine fr_ck (fun ha179 => ?_)
  refine fr_upd (by decide) (fun D179 => ?_)
  refine fr_upd (by decide) (fun D187 => ?_)
  exact fr_some
  refine fr_ck (fun ha14 => ?_)
  refine fr_upd (by decide) (fun D14 => ?_)
  exact fr_some
theorem g_X51_isOpen_fr {x1 : Int} {D : ga_D} : ga_fr 5191 5208 D (g_X51_isOpen x1 D) := by
  unfold g_X51_isOpen
  refine fr_ck (fun ha5 => ?_)
  refine fr_ite (fun c7 => ?_) (fun c7 => ?_)
  exact fr_some
  refine fr_bind (g_X51_classOf_fr) (fun r13 D13 => ?_)
  refine fr_bind (g_X51_holds_fr) (fun r16 D16 => ?_)
  refine fr_ite (fun c19 => ?_) (fun c19 => ?_)
  exact fr_some
  exact fr_some
theorem g_X51_openRule_l4_fr  {k25 : Int → ga_D → ga_S} {k36 : ga_D → ga_S} (hk25 : ∀ (x3 : Int) (D : ga_D), ga_fr 5191 5208 D (k25 x3 D)) (hk36 : ∀ (D : ga_D), ga_fr 5191 5208 D (k36 D)) : ∀ (n : Nat) (x1 x2 x3 : Int) (D : ga_D), ga_fr 5191 5208 D (g_X51_openRule_l4 n x1 x2 x3 D k25 k36) := by
  intro n
  induction n with
  | zero => intro x1 x2 x3 D; exact fr_none
  | succ n ih =>
    intro x1 x2 x3 D
    show ga_fr 5191 5208 D (if D 5191 11 ≤ x3 then (k36 D) else (ga_bind (g_X51_isOpen x3 D) (fun r14 D14 => if r14 = 0 then (ga_let (aw_w32 (x3 + 1)) (fun v30 => g_X51_openRule_l4 n x1 x2 v30 D14 k25 k36)) else (if x2 ≠ x1 then (ga_let (aw_w32 (x2 + 1)) (fun v27 => ga_let (aw_w32 (x3 + 1)) (fun v30 => g_X51_openRule_l4 n x1 v27 v30 D14 k25 k36))) else (k25 x3 D14)))))
    refine fr_ite (fun c9 => ?_) (fun c9 => ?_)
    exact hk36 _ 
    refine fr_bind (g_X51_isOpen_fr) (fun r14 D14 => ?_)
    refine fr_ite (fun c17 => ?_) (fun c17 => ?_)
    refine fr_let (fun v30 => ?_)
    exact ih _ _ _ _ 
    refine fr_ite (fun c22 => ?_) (fun c22 => ?_)
    refine fr_let (fun v27 => ?_)
    refine fr_let (fun v30 => ?_)
    exact ih _ _ _ _ 
    exact hk25 _ _ 
theorem g_X51_openRule_fr {x1 : Int} {D : ga_D} : ga_fr 5191 5208 D (g_X51_openRule x1 D) := by
  unfold g_X51_openRule
  refine g_X51_openRule_l4_fr (fun x3 D25 => ?_) (fun D36 => ?_) _ _ _ _ _ 
  exact fr_some
  exact fr_some
theorem g_X51_open_fr {x1 x2 : Int} {D : ga_D} : ga_fr 5191 5208 D (g_X51_open x1 x2 D) := by
  unfold g_X51_open
  refine fr_upd (by decide) (fun D2 => ?_)
  refine fr_bind (g_X51_openRule_fr) (fun r7 D7 => ?_)
  refine fr_ite (fun c13 => ?_) (fun c13 => ?_)
  refine fr_ite (fun c19 => ?_) (fun c19 => ?_)
  refine fr_ite (fun c28 => ?_) (fun c28 => ?_)
  refine fr_ite (fun c41 => ?_) (fun c41 => ?_)
  exact fr_some
  refine fr_ck (fun ha49 => ?_)
  exact fr_some
  refine fr_bind (g_X51_classOf_fr) (fun r33 D33 => ?_)
  exact fr_some
  exact fr_some
  exact fr_some
theorem g_X51_run_l15_fr  {k47 : ga_D → ga_S} (hk47 : ∀ (D : ga_D), ga_fr 5191 5208 D (k47 D)) : ∀ (n : Nat) (x3 : Int) (D : ga_D), ga_fr 5191 5208 D (g_X51_run_l15 n x3 D k47) := by
  intro n
  induction n with
  | zero => intro x3 D; exact fr_none
  | succ n ih =>
    intro x3 D
    show ga_fr 5191 5208 D (if D 5191 11 ≤ x3 then (k47 D) else (ga_ck (0 ≤ x3 ∧ x3 < 60) (if D 5199 x3 ≠ D 5191 19 then (ga_let (aw_w32 (x3 + 1)) (fun v41 => g_X51_run_l15 n v41 D k47)) else (ga_bind (g_X51_judge x3 D) (fun r38 D38 => ga_let (aw_w32 (x3 + 1)) (fun v41 => g_X51_run_l15 n v41 D38 k47))))))
    refine fr_ite (fun c20 => ?_) (fun c20 => ?_)
    exact hk47 _ 
    refine fr_ck (fun ha28 => ?_)
    refine fr_ite (fun c33 => ?_) (fun c33 => ?_)
    refine fr_let (fun v41 => ?_)
    exact ih _ _ 
    refine fr_bind (g_X51_judge_fr) (fun r38 D38 => ?_)
    refine fr_let (fun v41 => ?_)
    exact ih _ _ 
theorem g_X51_run_fr {x1 : Int} {D : ga_D} : ga_fr 5191 5208 D (g_X51_run x1 D) := by
  unfold g_X51_run
  refine fr_bind (g_X51_forget_fr) (fun r1 D1 => ?_)
  refine fr_bind (g_X51_edition_fr) (fun r7 D7 => ?_)
  refine fr_upd (by decide) (fun D10 => ?_)
  refine g_X51_run_l15_fr (fun D47 => ?_) _ _ _ 
  refine fr_bind (g_X51_open_fr) (fun r50 D50 => ?_)
  refine fr_ite (fun c56 => ?_) (fun c56 => ?_)
  exact fr_some
  exact fr_some
theorem g_X51_cls_l9_fr  {k28 : Int → ga_D → ga_S} {k39 : ga_D → ga_S} (hk28 : ∀ (x3 : Int) (D : ga_D), ga_fr 5191 5208 D (k28 x3 D)) (hk39 : ∀ (D : ga_D), ga_fr 5191 5208 D (k39 D)) : ∀ (n : Nat) (x1 x2 x3 : Int) (D : ga_D), ga_fr 5191 5208 D (g_X51_cls_l9 n x1 x2 x3 D k28 k39) := by
  intro n
  induction n with
  | zero => intro x1 x2 x3 D; exact fr_none
  | succ n ih =>
    intro x1 x2 x3 D
    show ga_fr 5191 5208 D (if 19 < x3 then (k39 D) else (ga_bind (g_X51_holds x3 D) (fun r17 D17 => if r17 = 0 then (ga_let (aw_w32 (x3 + 1)) (fun v33 => g_X51_cls_l9 n x1 x2 v33 D17 k28 k39)) else (if x2 ≠ x1 then (ga_let (aw_w32 (x2 + 1)) (fun v30 => ga_let (aw_w32 (x3 + 1)) (fun v33 => g_X51_cls_l9 n x1 v30 v33 D17 k28 k39))) else (k28 x3 D17)))))
    refine fr_ite (fun c12 => ?_) (fun c12 => ?_)
    exact hk39 _ 
    refine fr_bind (g_X51_holds_fr) (fun r17 D17 => ?_)
    refine fr_ite (fun c20 => ?_) (fun c20 => ?_)
    refine fr_let (fun v33 => ?_)
    exact ih _ _ _ _ 
    refine fr_ite (fun c25 => ?_) (fun c25 => ?_)
    refine fr_let (fun v30 => ?_)
    refine fr_let (fun v33 => ?_)
    exact ih _ _ _ _ 
    exact hk28 _ _ 
theorem g_X51_cls_fr {x1 : Int} {D : ga_D} : ga_fr 5191 5208 D (g_X51_cls x1 D) := by
  unfold g_X51_cls
  refine fr_upd (by decide) (fun D2 => ?_)
  refine g_X51_cls_l9_fr (fun x3 D28 => ?_) (fun D39 => ?_) _ _ _ _ _ 
  exact fr_some
  exact fr_some
theorem g_X51_moving_fr {D : ga_D} : ga_fr 5191 5208 D (g_X51_moving D) := by
  unfold g_X51_moving
  refine fr_bind (g_X51_cls_fr) (fun r2 D2 => ?_)
  exact fr_some
theorem g_X51_unit_fr {x1 : Int} {D : ga_D} : ga_fr 5191 5208 D (g_X51_unit x1 D) := by
  unfold g_X51_unit
  refine fr_upd (by decide) (fun D2 => ?_)
  refine fr_ite (fun c6 => ?_) (fun c6 => ?_)
  exact fr_some
  refine fr_ite (fun c13 => ?_) (fun c13 => ?_)
  exact fr_some
  refine fr_ite (fun c23 => ?_) (fun c23 => ?_)
  refine fr_ck (fun ha38 => ?_)
  refine fr_upd (by decide) (fun D38 => ?_)
  refine fr_upd (by decide) (fun D46 => ?_)
  exact fr_some
  exact fr_some
theorem g_X51_isGap_fr {x0 : Int} {D : ga_D} : ga_fr 5191 5208 D (g_X51_isGap x0 D) := by
  unfold g_X51_isGap
  refine fr_ite (fun c3 => ?_) (fun c3 => ?_)
  exact fr_some
  refine fr_ite (fun c9 => ?_) (fun c9 => ?_)
  exact fr_some
  exact fr_some
theorem g_X51_split_l17_fr  {k43 : Int → Int → ga_D → ga_S} (hk43 : ∀ (x1 x2 : Int) (D : ga_D), ga_fr 5191 5208 D (k43 x1 x2 D)) : ∀ (n : Nat) (x1 x2 : Int) (D : ga_D), ga_fr 5191 5208 D (g_X51_split_l17 n x1 x2 D k43) := by
  intro n
  induction n with
  | zero => intro x1 x2 D; exact fr_none
  | succ n ih =>
    intro x1 x2 D
    show ga_fr 5191 5208 D (if D 5191 1 ≤ x2 then (k43 x1 x2 D) else (ga_ck (0 ≤ x2 ∧ x2 < 3000) (ga_bind (g_X51_isGap (D 5192 x2) D) (fun r31 D31 => if r31 ≠ 0 then (k43 x1 x2 D31) else (ga_let (aw_w32 (x2 + 1)) (fun v37 => g_X51_split_l17 n x1 v37 D31 k43))))))
    refine fr_ite (fun c22 => ?_) (fun c22 => ?_)
    exact hk43 _ _ _ 
    refine fr_ck (fun ha30 => ?_)
    refine fr_bind (g_X51_isGap_fr) (fun r31 D31 => ?_)
    refine fr_ite (fun c34 => ?_) (fun c34 => ?_)
    exact hk43 _ _ _ 
    refine fr_let (fun v37 => ?_)
    exact ih _ _ _ 
theorem g_X51_split_j43_fr  {k7 : Int → ga_D → ga_S} (hk7 : ∀ (x1 : Int) (D : ga_D), ga_fr 5191 5208 D (k7 x1 D)) (x1 x2 : Int) (D : ga_D) : ga_fr 5191 5208 D (g_X51_split_j43 x1 x2 D k7) := by
  unfold g_X51_split_j43
  refine fr_ite (fun c45 => ?_) (fun c45 => ?_)
  refine fr_let (fun v81 => ?_)
  exact hk7 _ _ 
  refine fr_ck (fun ha57 => ?_)
  refine fr_upd (by decide) (fun D57 => ?_)
  refine fr_ck (fun ha67 => ?_)
  refine fr_upd (by decide) (fun D67 => ?_)
  refine fr_upd (by decide) (fun D75 => ?_)
  refine fr_let (fun v81 => ?_)
  exact hk7 _ _ 
theorem g_X51_split_l7_fr  {k85 : ga_D → ga_S} (hk85 : ∀ (D : ga_D), ga_fr 5191 5208 D (k85 D)) : ∀ (n : Nat) (x1 : Int) (D : ga_D), ga_fr 5191 5208 D (g_X51_split_l7 n x1 D k85) := by
  intro n
  induction n with
  | zero => intro x1 D; exact fr_none
  | succ n ih =>
    intro x1 D
    show ga_fr 5191 5208 D (if D 5191 1 ≤ x1 then (k85 D) else (g_X51_split_l17 aw_fu x1 x1 D (fun x1 x2 D43 => g_X51_split_j43 x1 x2 D43 (fun x1 D7 => g_X51_split_l7 n x1 D7 k85))))
    refine fr_ite (fun c12 => ?_) (fun c12 => ?_)
    exact hk85 _ 
    refine g_X51_split_l17_fr (fun x1 x2 D43 => ?_) _ _ _ _ 
    refine g_X51_split_j43_fr (fun x1 D7 => ?_) _ _ _ 
    exact ih _ _ 
theorem g_X51_split_fr {D : ga_D} : ga_fr 5191 5208 D (g_X51_split D) := by
  unfold g_X51_split
  refine fr_upd (by decide) (fun D2 => ?_)
  refine g_X51_split_l7_fr (fun D85 => ?_) _ _ _ 
  exact fr_some
theorem g_X51_sees_fr {x1 : Int} {D : ga_D} : ga_fr 5191 5208 D (g_X51_sees x1 D) := by
  unfold g_X51_sees
  refine fr_ite (fun c8 => ?_) (fun c8 => ?_)
  exact fr_some
  refine fr_bind (g_X51_wordOf_fr) (fun r27 D27 => ?_)
  refine fr_ite (fun c32 => ?_) (fun c32 => ?_)
  exact fr_some
  exact fr_some
theorem g_X51_eats_fr {x1 : Int} {D : ga_D} : ga_fr 5191 5208 D (g_X51_eats x1 D) := by
  unfold g_X51_eats
  refine fr_bind (g_X51_sees_fr) (fun r2 D2 => ?_)
  refine fr_ite (fun c8 => ?_) (fun c8 => ?_)
  refine fr_upd (by decide) (fun D24 => ?_)
  refine fr_ck (fun hr28 => ?_)
  exact fr_some
  refine fr_upd (by decide) (fun D24 => ?_)
  refine fr_ck (fun hr28 => ?_)
  exact fr_some
theorem g_X51_eatsNumber_j54_fr  (s0 : Int) (D : ga_D) : ga_fr 5191 5208 D (g_X51_eatsNumber_j54 s0 D) := by
  unfold g_X51_eatsNumber_j54
  refine fr_ite (fun c59 => ?_) (fun c59 => ?_)
  refine fr_upd (by decide) (fun D75 => ?_)
  refine fr_ck (fun hr80 => ?_)
  exact fr_some
  refine fr_upd (by decide) (fun D75 => ?_)
  refine fr_ck (fun hr80 => ?_)
  exact fr_some
theorem g_X51_eatsNumber_j53_fr  (D : ga_D) : ga_fr 5191 5208 D (g_X51_eatsNumber_j53 D) := by
  unfold g_X51_eatsNumber_j53
  refine g_X51_eatsNumber_j54_fr _ _ 
theorem g_X51_eatsNumber_j34_fr  (x1 x2 s0 : Int) (D : ga_D) : ga_fr 5191 5208 D (g_X51_eatsNumber_j34 x1 x2 s0 D) := by
  unfold g_X51_eatsNumber_j34
  refine fr_ite (fun c36 => ?_) (fun c36 => ?_)
  refine g_X51_eatsNumber_j53_fr _ 
  refine fr_ite (fun c41 => ?_) (fun c41 => ?_)
  refine g_X51_eatsNumber_j53_fr _ 
  refine fr_ite (fun c46 => ?_) (fun c46 => ?_)
  refine g_X51_eatsNumber_j53_fr _ 
  refine g_X51_eatsNumber_j54_fr _ _ 
theorem g_X51_eatsNumber_fr {x1 x2 : Int} {D : ga_D} : ga_fr 5191 5208 D (g_X51_eatsNumber x1 x2 D) := by
  unfold g_X51_eatsNumber
  refine fr_ite (fun c8 => ?_) (fun c8 => ?_)
  refine g_X51_eatsNumber_j34_fr _ _ _ _ 
  refine fr_bind (g_X51_numberOf_fr) (fun r27 D27 => ?_)
  refine g_X51_eatsNumber_j34_fr _ _ _ _ 
theorem g_X51_eatsTerm_j81_fr  (x1 : Int) (D : ga_D) : ga_fr 5191 5208 D (g_X51_eatsTerm_j81 x1 D) := by
  unfold g_X51_eatsTerm_j81
  refine fr_ite (fun c82 => ?_) (fun c82 => ?_)
  refine fr_ck (fun hr105 => ?_)
  exact fr_some
  refine fr_bind (g_X51_eats_fr) (fun r89 D89 => ?_)
  refine fr_ite (fun c92 => ?_) (fun c92 => ?_)
  refine fr_ck (fun hr105 => ?_)
  exact fr_some
  refine fr_bind (g_X51_eatsNumber_fr) (fun r100 D100 => ?_)
  refine fr_ck (fun hr105 => ?_)
  exact fr_some
theorem g_X51_eatsTerm_j58_fr  (s0 : Int) (D : ga_D) : ga_fr 5191 5208 D (g_X51_eatsTerm_j58 s0 D) := by
  unfold g_X51_eatsTerm_j58
  refine fr_ite (fun c60 => ?_) (fun c60 => ?_)
  refine g_X51_eatsTerm_j81_fr _ _ 
  refine fr_bind (g_X51_eats_fr) (fun r67 D67 => ?_)
  refine fr_ite (fun c70 => ?_) (fun c70 => ?_)
  refine g_X51_eatsTerm_j81_fr _ _ 
  refine fr_bind (g_X51_eatsNumber_fr) (fun r77 D77 => ?_)
  refine g_X51_eatsTerm_j81_fr _ _ 
theorem g_X51_eatsTerm_j57_fr  (D : ga_D) : ga_fr 5191 5208 D (g_X51_eatsTerm_j57 D) := by
  unfold g_X51_eatsTerm_j57
  refine g_X51_eatsTerm_j58_fr _ _ 
theorem g_X51_eatsTerm_j22_fr  (D : ga_D) : ga_fr 5191 5208 D (g_X51_eatsTerm_j22 D) := by
  unfold g_X51_eatsTerm_j22
  refine fr_bind (g_X51_eatsNumber_fr) (fun r27 D27 => ?_)
  refine fr_ite (fun c30 => ?_) (fun c30 => ?_)
  refine g_X51_eatsTerm_j57_fr _ 
  refine fr_bind (g_X51_eats_fr) (fun r37 D37 => ?_)
  refine fr_ite (fun c40 => ?_) (fun c40 => ?_)
  refine g_X51_eatsTerm_j57_fr _ 
  refine fr_bind (g_X51_eatsNumber_fr) (fun r47 D47 => ?_)
  refine fr_ite (fun c50 => ?_) (fun c50 => ?_)
  refine g_X51_eatsTerm_j57_fr _ 
  refine g_X51_eatsTerm_j58_fr _ _ 
theorem g_X51_eatsTerm_fr {D : ga_D} : ga_fr 5191 5208 D (g_X51_eatsTerm D) := by
  unfold g_X51_eatsTerm
  refine fr_bind (g_X51_eats_fr) (fun r4 D4 => ?_)
  refine fr_ite (fun c7 => ?_) (fun c7 => ?_)
  refine g_X51_eatsTerm_j22_fr _ 
  refine fr_bind (g_X51_eats_fr) (fun r14 D14 => ?_)
  refine fr_ite (fun c17 => ?_) (fun c17 => ?_)
  refine g_X51_eatsTerm_j22_fr _ 
  exact fr_some
theorem g_X51_eatsSum_j29_fr  {k5 : Int → ga_D → ga_S} (hk5 : ∀ (x1 : Int) (D : ga_D), ga_fr 5191 5208 D (k5 x1 D)) (D : ga_D) : ga_fr 5191 5208 D (g_X51_eatsSum_j29 D k5) := by
  unfold g_X51_eatsSum_j29
  refine fr_bind (g_X51_eatsTerm_fr) (fun r30 D30 => ?_)
  exact hk5 _ _ 
theorem g_X51_eatsSum_l5_fr  {k37 : Int → ga_D → ga_S} (hk37 : ∀ (x1 : Int) (D : ga_D), ga_fr 5191 5208 D (k37 x1 D)) : ∀ (n : Nat) (x1 : Int) (D : ga_D), ga_fr 5191 5208 D (g_X51_eatsSum_l5 n x1 D k37) := by
  intro n
  induction n with
  | zero => intro x1 D; exact fr_none
  | succ n ih =>
    intro x1 D
    show ga_fr 5191 5208 D (if x1 = 0 then (k37 x1 D) else (ga_bind (g_X51_sees 6181123443 D) (fun r13 D13 => if r13 ≠ 0 then (g_X51_eatsSum_j29 D13 (fun x1 D5 => g_X51_eatsSum_l5 n x1 D5 k37)) else (ga_bind (g_X51_sees 1569431909747 D13) (fun r23 D23 => if r23 = 0 then (k37 x1 D23) else (g_X51_eatsSum_j29 D23 (fun x1 D5 => g_X51_eatsSum_l5 n x1 D5 k37)))))))
    refine fr_ite (fun c6 => ?_) (fun c6 => ?_)
    exact hk37 _ _ 
    refine fr_bind (g_X51_sees_fr) (fun r13 D13 => ?_)
    refine fr_ite (fun c16 => ?_) (fun c16 => ?_)
    refine g_X51_eatsSum_j29_fr (fun x1 D5 => ?_) _ 
    exact ih _ _ 
    refine fr_bind (g_X51_sees_fr) (fun r23 D23 => ?_)
    refine fr_ite (fun c26 => ?_) (fun c26 => ?_)
    exact hk37 _ _ 
    refine g_X51_eatsSum_j29_fr (fun x1 D5 => ?_) _ 
    exact ih _ _ 
theorem g_X51_eatsSum_j61_fr  (D : ga_D) : ga_fr 5191 5208 D (g_X51_eatsSum_j61 D) := by
  unfold g_X51_eatsSum_j61
  refine fr_bind (g_X51_eatsNumber_fr) (fun r65 D65 => ?_)
  refine fr_ite (fun c68 => ?_) (fun c68 => ?_)
  exact fr_some
  exact fr_some
theorem g_X51_eatsSum_j37_fr  (x1 : Int) (D : ga_D) : ga_fr 5191 5208 D (g_X51_eatsSum_j37 x1 D) := by
  unfold g_X51_eatsSum_j37
  refine fr_ite (fun c38 => ?_) (fun c38 => ?_)
  exact fr_some
  refine fr_bind (g_X51_eats_fr) (fun r45 D45 => ?_)
  refine fr_ite (fun c48 => ?_) (fun c48 => ?_)
  refine g_X51_eatsSum_j61_fr _ 
  refine fr_bind (g_X51_eats_fr) (fun r55 D55 => ?_)
  refine fr_ite (fun c58 => ?_) (fun c58 => ?_)
  exact fr_some
  refine g_X51_eatsSum_j61_fr _ 
theorem g_X51_eatsSum_fr {D : ga_D} : ga_fr 5191 5208 D (g_X51_eatsSum D) := by
  unfold g_X51_eatsSum
  refine fr_bind (g_X51_eatsTerm_fr) (fun r1 D1 => ?_)
  refine g_X51_eatsSum_l5_fr (fun x1 D37 => ?_) _ _ _ 
  refine g_X51_eatsSum_j37_fr _ _ 
theorem g_X51_eatsItem_j40_fr  (D : ga_D) : ga_fr 5191 5208 D (g_X51_eatsItem_j40 D) := by
  unfold g_X51_eatsItem_j40
  refine fr_bind (g_X51_eatsNumber_fr) (fun r44 D44 => ?_)
  refine fr_ite (fun c47 => ?_) (fun c47 => ?_)
  exact fr_some
  exact fr_some
theorem g_X51_eatsItem_fr {D : ga_D} : ga_fr 5191 5208 D (g_X51_eatsItem D) := by
  unfold g_X51_eatsItem
  refine fr_bind (g_X51_eats_fr) (fun r4 D4 => ?_)
  refine fr_ite (fun c7 => ?_) (fun c7 => ?_)
  refine fr_bind (g_X51_eats_fr) (fun r60 D60 => ?_)
  refine fr_ite (fun c63 => ?_) (fun c63 => ?_)
  refine fr_bind (g_X51_eats_fr) (fun r78 D78 => ?_)
  refine fr_ite (fun c81 => ?_) (fun c81 => ?_)
  exact fr_some
  refine fr_bind (g_X51_eatsSum_fr) (fun r85 D85 => ?_)
  refine fr_ite (fun c88 => ?_) (fun c88 => ?_)
  exact fr_some
  exact fr_some
  refine fr_bind (g_X51_eatsNumber_fr) (fun r70 D70 => ?_)
  refine fr_ck (fun hr73 => ?_)
  exact fr_some
  refine fr_bind (g_X51_eatsNumber_fr) (fun r14 D14 => ?_)
  refine fr_ite (fun c17 => ?_) (fun c17 => ?_)
  exact fr_some
  refine fr_bind (g_X51_eats_fr) (fun r24 D24 => ?_)
  refine fr_ite (fun c27 => ?_) (fun c27 => ?_)
  refine g_X51_eatsItem_j40_fr _ 
  refine fr_bind (g_X51_eats_fr) (fun r34 D34 => ?_)
  refine fr_ite (fun c37 => ?_) (fun c37 => ?_)
  exact fr_some
  refine g_X51_eatsItem_j40_fr _ 
theorem g_X51_eatsRule_l43_fr  {k65 : Int → ga_D → ga_S} (hk65 : ∀ (x1 : Int) (D : ga_D), ga_fr 5191 5208 D (k65 x1 D)) : ∀ (n : Nat) (x1 : Int) (D : ga_D), ga_fr 5191 5208 D (g_X51_eatsRule_l43 n x1 D k65) := by
  intro n
  induction n with
  | zero => intro x1 D; exact fr_none
  | succ n ih =>
    intro x1 D
    show ga_fr 5191 5208 D (if x1 = 0 then (k65 x1 D) else (ga_bind (g_X51_eats 23162468 D) (fun r51 D51 => if r51 = 0 then (k65 x1 D51) else (ga_bind (g_X51_eatsItem D51) (fun r58 D58 => g_X51_eatsRule_l43 n r58 D58 k65)))))
    refine fr_ite (fun c44 => ?_) (fun c44 => ?_)
    exact hk65 _ _ 
    refine fr_bind (g_X51_eats_fr) (fun r51 D51 => ?_)
    refine fr_ite (fun c54 => ?_) (fun c54 => ?_)
    exact hk65 _ _ 
    refine fr_bind (g_X51_eatsItem_fr) (fun r58 D58 => ?_)
    exact ih _ _ 
theorem g_X51_eatsRule_j65_fr  (x1 : Int) (D : ga_D) : ga_fr 5191 5208 D (g_X51_eatsRule_j65 x1 D) := by
  unfold g_X51_eatsRule_j65
  refine fr_ite (fun c66 => ?_) (fun c66 => ?_)
  exact fr_some
  refine fr_bind (g_X51_eats_fr) (fun r73 D73 => ?_)
  refine fr_ite (fun c76 => ?_) (fun c76 => ?_)
  exact fr_some
  exact fr_some
theorem g_X51_eatsRule_fr {D : ga_D} : ga_fr 5191 5208 D (g_X51_eatsRule D) := by
  unfold g_X51_eatsRule
  refine fr_bind (g_X51_eats_fr) (fun r4 D4 => ?_)
  refine fr_ite (fun c7 => ?_) (fun c7 => ?_)
  refine g_X51_eatsRule_l43_fr (fun x1 D65 => ?_) _ _ _ 
  refine g_X51_eatsRule_j65_fr _ _ 
  refine fr_bind (g_X51_eatsNumber_fr) (fun r14 D14 => ?_)
  refine fr_ite (fun c17 => ?_) (fun c17 => ?_)
  refine g_X51_eatsRule_l43_fr (fun x1 D65 => ?_) _ _ _ 
  refine g_X51_eatsRule_j65_fr _ _ 
  refine fr_bind (g_X51_eats_fr) (fun r24 D24 => ?_)
  refine fr_ite (fun c27 => ?_) (fun c27 => ?_)
  refine g_X51_eatsRule_l43_fr (fun x1 D65 => ?_) _ _ _ 
  refine g_X51_eatsRule_j65_fr _ _ 
  refine fr_bind (g_X51_eatsItem_fr) (fun r31 D31 => ?_)
  refine fr_ite (fun c34 => ?_) (fun c34 => ?_)
  refine g_X51_eatsRule_l43_fr (fun x1 D65 => ?_) _ _ _ 
  refine g_X51_eatsRule_j65_fr _ _ 
  refine g_X51_eatsRule_l43_fr (fun x1 D65 => ?_) _ _ _ 
  refine g_X51_eatsRule_j65_fr _ _ 
theorem g_X51_eatsAll_l79_fr  {k6 : Int → Int → Int → ga_D → ga_S} (hk6 : ∀ (x1 x2 x3 : Int) (D : ga_D), ga_fr 5191 5208 D (k6 x1 x2 x3 D)) : ∀ (n : Nat) (x1 x2 x3 : Int) (D : ga_D), ga_fr 5191 5208 D (g_X51_eatsAll_l79 n x1 x2 x3 D k6) := by
  intro n
  induction n with
  | zero => intro x1 x2 x3 D; exact fr_none
  | succ n ih =>
    intro x1 x2 x3 D
    show ga_fr 5191 5208 D (if x3 = 0 then (k6 x1 x2 x3 D) else (ga_bind (g_X51_sees 1526531715955 D) (fun r87 D87 => if r87 = 0 then (k6 x1 x2 x3 D87) else (if 60 ≤ x2 then (ga_let (aw_w32 (x2 + 1)) (fun v112 => g_X51_eatsAll_l79 n x1 v112 0 D87 k6)) else (ga_bind (g_X51_eatsRule D87) (fun r100 D100 => if r100 = 0 then (ga_let (aw_w32 (x2 + 1)) (fun v112 => g_X51_eatsAll_l79 n x1 v112 0 D100 k6)) else (ga_let (aw_w32 (x2 + 1)) (fun v112 => g_X51_eatsAll_l79 n x1 v112 1 D100 k6))))))))
    refine fr_ite (fun c80 => ?_) (fun c80 => ?_)
    exact hk6 _ _ _ _ 
    refine fr_bind (g_X51_sees_fr) (fun r87 D87 => ?_)
    refine fr_ite (fun c90 => ?_) (fun c90 => ?_)
    exact hk6 _ _ _ _ 
    refine fr_ite (fun c96 => ?_) (fun c96 => ?_)
    refine fr_let (fun v112 => ?_)
    exact ih _ _ _ _ 
    refine fr_bind (g_X51_eatsRule_fr) (fun r100 D100 => ?_)
    refine fr_ite (fun c103 => ?_) (fun c103 => ?_)
    refine fr_let (fun v112 => ?_)
    exact ih _ _ _ _ 
    refine fr_let (fun v112 => ?_)
    exact ih _ _ _ _ 
theorem g_X51_eatsAll_j46_fr  {k6 : Int → Int → Int → ga_D → ga_S} (hk6 : ∀ (x1 x2 x3 : Int) (D : ga_D), ga_fr 5191 5208 D (k6 x1 x2 x3 D)) (x2 s0 : Int) (D : ga_D) : ga_fr 5191 5208 D (g_X51_eatsAll_j46 x2 s0 D k6) := by
  unfold g_X51_eatsAll_j46
  refine fr_ite (fun c48 => ?_) (fun c48 => ?_)
  refine g_X51_eatsAll_l79_fr (fun x1 x2 x3 D6 => ?_) _ _ _ _ _ 
  exact hk6 _ _ _ _ 
  refine fr_bind (g_X51_numberOf_fr) (fun r69 D69 => ?_)
  refine fr_let (fun v78 => ?_)
  refine g_X51_eatsAll_l79_fr (fun x1 x2 x3 D6 => ?_) _ _ _ _ _ 
  exact hk6 _ _ _ _ 
theorem g_X51_eatsAll_j45_fr  {k6 : Int → Int → Int → ga_D → ga_S} (hk6 : ∀ (x1 x2 x3 : Int) (D : ga_D), ga_fr 5191 5208 D (k6 x1 x2 x3 D)) (x2 : Int) (D : ga_D) : ga_fr 5191 5208 D (g_X51_eatsAll_j45 x2 D k6) := by
  unfold g_X51_eatsAll_j45
  refine g_X51_eatsAll_j46_fr (fun x1 x2 x3 D6 => ?_) _ _ _ 
  exact hk6 _ _ _ _ 
theorem g_X51_eatsAll_l6_fr  {k118 : Int → ga_D → ga_S} (hk118 : ∀ (x3 : Int) (D : ga_D), ga_fr 5191 5208 D (k118 x3 D)) : ∀ (n : Nat) (x1 x2 x3 : Int) (D : ga_D), ga_fr 5191 5208 D (g_X51_eatsAll_l6 n x1 x2 x3 D k118) := by
  intro n
  induction n with
  | zero => intro x1 x2 x3 D; exact fr_none
  | succ n ih =>
    intro x1 x2 x3 D
    show ga_fr 5191 5208 D (if x3 = 0 then (k118 x3 D) else (if D 5191 8 ≤ D 5191 25 then (k118 x3 D) else (ga_bind (g_X51_eats 6013742957 D) (fun r25 D25 => if r25 = 0 then (g_X51_eatsAll_j45 x2 D25 (fun x1 x2 x3 D6 => g_X51_eatsAll_l6 n x1 x2 x3 D6 k118)) else (ga_bind (g_X51_eatsNumber x1 999999999 D25) (fun r35 D35 => if r35 = 0 then (g_X51_eatsAll_j45 x2 D35 (fun x1 x2 x3 D6 => g_X51_eatsAll_l6 n x1 x2 x3 D6 k118)) else (g_X51_eatsAll_j46 x2 1 D35 (fun x1 x2 x3 D6 => g_X51_eatsAll_l6 n x1 x2 x3 D6 k118))))))))
    refine fr_ite (fun c7 => ?_) (fun c7 => ?_)
    exact hk118 _ _ 
    refine fr_ite (fun c18 => ?_) (fun c18 => ?_)
    exact hk118 _ _ 
    refine fr_bind (g_X51_eats_fr) (fun r25 D25 => ?_)
    refine fr_ite (fun c28 => ?_) (fun c28 => ?_)
    refine g_X51_eatsAll_j45_fr (fun x1 x2 x3 D6 => ?_) _ _ 
    exact ih _ _ _ _ 
    refine fr_bind (g_X51_eatsNumber_fr) (fun r35 D35 => ?_)
    refine fr_ite (fun c38 => ?_) (fun c38 => ?_)
    refine g_X51_eatsAll_j45_fr (fun x1 x2 x3 D6 => ?_) _ _ 
    exact ih _ _ _ _ 
    refine g_X51_eatsAll_j46_fr (fun x1 x2 x3 D6 => ?_) _ _ _ 
    exact ih _ _ _ _ 
theorem g_X51_eatsAll_fr {D : ga_D} : ga_fr 5191 5208 D (g_X51_eatsAll D) := by
  unfold g_X51_eatsAll
  refine g_X51_eatsAll_l6_fr (fun x3 D118 => ?_) _ _ _ _ _ 
  refine fr_ck (fun hr119 => ?_)
  exact fr_some
theorem g_X51_read_l45_fr  {k71 : ga_D → ga_S} (hk71 : ∀ (D : ga_D), ga_fr 5191 5208 D (k71 D)) : ∀ (n : Nat) (x3 x4 : Int) (D : ga_D), ga_fr 5191 5208 D (g_X51_read_l45 n x3 x4 D k71) := by
  intro n
  induction n with
  | zero => intro x3 x4 D; exact fr_none
  | succ n ih =>
    intro x3 x4 D
    show ga_fr 5191 5208 D (if x3 ≤ x4 then (k71 D) else (ga_ck (0 ≤ x4 ∧ x4 < 3000) (ga_ck (0 ≤ x4 ∧ x4 < 3000 ∧ (-128) ≤ D 5192 x4 ∧ D 5192 x4 < 128) (ga_let (ga_set D 5193 x4 (D 5192 x4)) (fun D64 => ga_let (aw_w32 (x4 + 1)) (fun v65 => g_X51_read_l45 n x3 v65 D64 k71))))))
    refine fr_ite (fun c48 => ?_) (fun c48 => ?_)
    exact hk71 _ 
    refine fr_ck (fun ha63 => ?_)
    refine fr_ck (fun ha64 => ?_)
    refine fr_upd (by decide) (fun D64 => ?_)
    refine fr_let (fun v65 => ?_)
    exact ih _ _ _ 
theorem g_X51_read_l92_fr  {k135 : ga_D → ga_S} (hk135 : ∀ (D : ga_D), ga_fr 5191 5208 D (k135 D)) : ∀ (n : Nat) (x4 : Int) (D : ga_D), ga_fr 5191 5208 D (g_X51_read_l92 n x4 D k135) := by
  intro n
  induction n with
  | zero => intro x4 D; exact fr_none
  | succ n ih =>
    intro x4 D
    show ga_fr 5191 5208 D (if D 5191 5 ≤ x4 then (k135 D) else (ga_ck (0 ≤ x4 ∧ x4 < 1501) (ga_ck (0 ≤ x4 ∧ x4 < 1501) (ga_let (ga_set D 5194 x4 (D 5196 x4)) (fun D114 => ga_ck (0 ≤ x4 ∧ x4 < 1501) (ga_ck (0 ≤ x4 ∧ x4 < 1501) (ga_let (ga_set D114 5195 x4 (D114 5197 x4)) (fun D128 => ga_let (aw_w32 (x4 + 1)) (fun v129 => g_X51_read_l92 n v129 D128 k135)))))))))
    refine fr_ite (fun c98 => ?_) (fun c98 => ?_)
    exact hk135 _ 
    refine fr_ck (fun ha113 => ?_)
    refine fr_ck (fun ha114 => ?_)
    refine fr_upd (by decide) (fun D114 => ?_)
    refine fr_ck (fun ha127 => ?_)
    refine fr_ck (fun ha128 => ?_)
    refine fr_upd (by decide) (fun D128 => ?_)
    refine fr_let (fun v129 => ?_)
    exact ih _ _ 
theorem g_X51_read_j186_fr  {k138 : Int → ga_D → ga_S} (hk138 : ∀ (x4 : Int) (D : ga_D), ga_fr 5191 5208 D (k138 x4 D)) (x4 : Int) (D : ga_D) : ga_fr 5191 5208 D (g_X51_read_j186 x4 D k138) := by
  unfold g_X51_read_j186
  refine fr_bind (g_X51_has_fr) (fun r192 D192 => ?_)
  refine fr_ite (fun c195 => ?_) (fun c195 => ?_)
  refine fr_let (fun v234 => ?_)
  exact hk138 _ _ 
  refine fr_ck (fun ha208 => ?_)
  refine fr_upd (by decide) (fun D208 => ?_)
  refine fr_ck (fun ha223 => ?_)
  refine fr_upd (by decide) (fun D223 => ?_)
  refine fr_upd (by decide) (fun D231 => ?_)
  refine fr_let (fun v234 => ?_)
  exact hk138 _ _ 
theorem g_X51_read_l138_fr  {k240 : ga_D → ga_S} (hk240 : ∀ (D : ga_D), ga_fr 5191 5208 D (k240 D)) : ∀ (n : Nat) (x4 : Int) (D : ga_D), ga_fr 5191 5208 D (g_X51_read_l138 n x4 D k240) := by
  intro n
  induction n with
  | zero => intro x4 D; exact fr_none
  | succ n ih =>
    intro x4 D
    show ga_fr 5191 5208 D (if D 5191 5 ≤ x4 then (k240 D) else (ga_bind (g_X51_has x4 6013742957 D) (fun r153 D153 => if r153 = 0 then (g_X51_read_j186 x4 D153 (fun x4 D138 => g_X51_read_l138 n x4 D138 k240)) else (ga_bind (g_X51_number (aw_w32 (x4 + 1)) D153) (fun r172 D172 => ga_ck (0 ≤ D153 5191 13 ∧ D153 5191 13 < 1500) (ga_let (ga_set D172 5200 (D153 5191 13) r172) (fun D175 => ga_let (ga_set D175 5191 13 (aw_w32 ((D175 5191 13) + 1))) (fun D183 => g_X51_read_j186 x4 D183 (fun x4 D138 => g_X51_read_l138 n x4 D138 k240)))))))))
    refine fr_ite (fun c144 => ?_) (fun c144 => ?_)
    exact hk240 _ 
    refine fr_bind (g_X51_has_fr) (fun r153 D153 => ?_)
    refine fr_ite (fun c156 => ?_) (fun c156 => ?_)
    refine g_X51_read_j186_fr (fun x4 D138 => ?_) _ _ 
    exact ih _ _ 
    refine fr_bind (g_X51_number_fr) (fun r172 D172 => ?_)
    refine fr_ck (fun ha175 => ?_)
    refine fr_upd (by decide) (fun D175 => ?_)
    refine fr_upd (by decide) (fun D183 => ?_)
    refine g_X51_read_j186_fr (fun x4 D138 => ?_) _ _ 
    exact ih _ _ 
theorem g_X51_read_fr {D : ga_D} : ga_fr 5191 5208 D (g_X51_read D) := by
  unfold g_X51_read
  refine fr_upd (by decide) (fun D2 => ?_)
  refine fr_bind (g_X51_split_fr) (fun r6 D6 => ?_)
  refine fr_upd (by decide) (fun D11 => ?_)
  refine fr_bind (g_X51_eatsAll_fr) (fun r15 D15 => ?_)
  refine fr_let (fun v23 => ?_)
  refine fr_let (fun v28 => ?_)
  refine fr_upd (by decide) (fun D31 => ?_)
  refine fr_ite (fun c35 => ?_) (fun c35 => ?_)
  refine g_X51_read_l45_fr (fun D71 => ?_) _ _ _ _ 
  refine fr_upd (by decide) (fun D76 => ?_)
  refine fr_upd (by decide) (fun D81 => ?_)
  refine fr_upd (by decide) (fun D86 => ?_)
  refine g_X51_read_l92_fr (fun D135 => ?_) _ _ _ 
  refine g_X51_read_l138_fr (fun D240 => ?_) _ _ _ 
  refine fr_bind (g_X51_forget_fr) (fun r241 D241 => ?_)
  exact fr_some
  exact fr_some
theorem g_X51_test_fr {x1 x2 : Int} {D : ga_D} : ga_fr 5191 5208 D (g_X51_test x1 x2 D) := by
  unfold g_X51_test
  refine fr_upd (by decide) (fun D2 => ?_)
  refine fr_ite (fun c6 => ?_) (fun c6 => ?_)
  exact fr_some
  refine fr_ite (fun c12 => ?_) (fun c12 => ?_)
  exact fr_some
  refine fr_ite (fun c17 => ?_) (fun c17 => ?_)
  exact fr_some
  refine fr_ite (fun c23 => ?_) (fun c23 => ?_)
  refine fr_ck (fun ha34 => ?_)
  refine fr_upd (by decide) (fun D34 => ?_)
  exact fr_some
  exact fr_some
theorem g_X51_clearParts_l7_fr  {k26 : ga_D → ga_S} (hk26 : ∀ (D : ga_D), ga_fr 5191 5208 D (k26 D)) : ∀ (n : Nat) (x1 : Int) (D : ga_D), ga_fr 5191 5208 D (g_X51_clearParts_l7 n x1 D k26) := by
  intro n
  induction n with
  | zero => intro x1 D; exact fr_none
  | succ n ih =>
    intro x1 D
    show ga_fr 5191 5208 D (if 15 < x1 then (k26 D) else (ga_ck (0 ≤ x1 ∧ x1 < 16) (ga_let (ga_set D 5203 x1 0) (fun D19 => ga_let (aw_w32 (x1 + 1)) (fun v20 => g_X51_clearParts_l7 n v20 D19 k26)))))
    refine fr_ite (fun c10 => ?_) (fun c10 => ?_)
    exact hk26 _ 
    refine fr_ck (fun ha19 => ?_)
    refine fr_upd (by decide) (fun D19 => ?_)
    refine fr_let (fun v20 => ?_)
    exact ih _ _ 
theorem g_X51_clearParts_l28_fr  {k47 : ga_D → ga_S} (hk47 : ∀ (D : ga_D), ga_fr 5191 5208 D (k47 D)) : ∀ (n : Nat) (x1 : Int) (D : ga_D), ga_fr 5191 5208 D (g_X51_clearParts_l28 n x1 D k47) := by
  intro n
  induction n with
  | zero => intro x1 D; exact fr_none
  | succ n ih =>
    intro x1 D
    show ga_fr 5191 5208 D (if 7 < x1 then (k47 D) else (ga_ck (0 ≤ x1 ∧ x1 < 8) (ga_let (ga_set D 5204 x1 (-1)) (fun D40 => ga_let (aw_w32 (x1 + 1)) (fun v41 => g_X51_clearParts_l28 n v41 D40 k47)))))
    refine fr_ite (fun c31 => ?_) (fun c31 => ?_)
    exact hk47 _ 
    refine fr_ck (fun ha40 => ?_)
    refine fr_upd (by decide) (fun D40 => ?_)
    refine fr_let (fun v41 => ?_)
    exact ih _ _ 
theorem g_X51_clearParts_fr {D : ga_D} : ga_fr 5191 5208 D (g_X51_clearParts D) := by
  unfold g_X51_clearParts
  refine fr_upd (by decide) (fun D2 => ?_)
  refine g_X51_clearParts_l7_fr (fun D26 => ?_) _ _ _ 
  refine g_X51_clearParts_l28_fr (fun D47 => ?_) _ _ _ 
  exact fr_some
theorem g_X51_way_fr {x1 : Int} {D : ga_D} : ga_fr 5191 5208 D (g_X51_way x1 D) := by
  unfold g_X51_way
  refine fr_upd (by decide) (fun D2 => ?_)
  refine fr_let (fun v9 => ?_)
  refine fr_ck (fun hp12 => ?_)
  refine fr_upd (by decide) (fun D12 => ?_)
  refine fr_ck (fun hr16 => ?_)
  exact fr_some
theorem g_X51_walk_fr {x1 : Int} {D : ga_D} : ga_fr 5191 5208 D (g_X51_walk x1 D) := by
  unfold g_X51_walk
  refine fr_bind (g_X51_run_fr) (fun r2 D2 => ?_)
  exact fr_some
theorem g_X51_mark_fr {x1 : Int} {D : ga_D} : ga_fr 5191 5208 D (g_X51_mark x1 D) := by
  unfold g_X51_mark
  refine fr_upd (by decide) (fun D2 => ?_)
  refine fr_ite (fun c6 => ?_) (fun c6 => ?_)
  exact fr_some
  refine fr_ite (fun c14 => ?_) (fun c14 => ?_)
  exact fr_some
  refine fr_ck (fun ha22 => ?_)
  exact fr_some
theorem g_X51_missing_l36_fr  {k76 : Int → Int → Int → Int → Int → ga_D → ga_S} (hk76 : ∀ (x1 x2 x3 x4 x5 : Int) (D : ga_D), ga_fr 5191 5208 D (k76 x1 x2 x3 x4 x5 D)) : ∀ (n : Nat) (x1 x2 x3 x4 x5 x6 : Int) (D : ga_D), ga_fr 5191 5208 D (g_X51_missing_l36 n x1 x2 x3 x4 x5 x6 D k76) := by
  intro n
  induction n with
  | zero => intro x1 x2 x3 x4 x5 x6 D; exact fr_none
  | succ n ih =>
    intro x1 x2 x3 x4 x5 x6 D
    show ga_fr 5191 5208 D (if x3 ≤ x6 then (k76 x1 x2 x3 x4 x5 D) else (if x5 = 0 then (ga_let (aw_w32 (x6 + 1)) (fun v70 => g_X51_missing_l36 n x1 x2 x3 x4 0 v70 D k76)) else (ga_bind (g_X51_openRule x6 D) (fun r54 D54 => ga_ck (0 ≤ r54 ∧ r54 < 60) (if D54 5206 r54 = x4 then (ga_let (aw_w32 (x6 + 1)) (fun v70 => g_X51_missing_l36 n x1 x2 x3 x4 0 v70 D54 k76)) else (ga_let (aw_w32 (x6 + 1)) (fun v70 => g_X51_missing_l36 n x1 x2 x3 x4 1 v70 D54 k76)))))))
    refine fr_ite (fun c39 => ?_) (fun c39 => ?_)
    exact hk76 _ _ _ _ _ _ 
    refine fr_ite (fun c44 => ?_) (fun c44 => ?_)
    refine fr_let (fun v70 => ?_)
    exact ih _ _ _ _ _ _ _ 
    refine fr_bind (g_X51_openRule_fr) (fun r54 D54 => ?_)
    refine fr_ck (fun ha57 => ?_)
    refine fr_ite (fun c60 => ?_) (fun c60 => ?_)
    refine fr_let (fun v70 => ?_)
    exact ih _ _ _ _ _ _ _ 
    refine fr_let (fun v70 => ?_)
    exact ih _ _ _ _ _ _ _ 
theorem g_X51_missing_l9_fr  {k86 : Int → ga_D → ga_S} {k98 : ga_D → ga_S} (hk86 : ∀ (x4 : Int) (D : ga_D), ga_fr 5191 5208 D (k86 x4 D)) (hk98 : ∀ (D : ga_D), ga_fr 5191 5208 D (k98 D)) : ∀ (n : Nat) (x1 x2 x3 : Int) (D : ga_D), ga_fr 5191 5208 D (g_X51_missing_l9 n x1 x2 x3 D k86 k98) := by
  intro n
  induction n with
  | zero => intro x1 x2 x3 D; exact fr_none
  | succ n ih =>
    intro x1 x2 x3 D
    show ga_fr 5191 5208 D (ga_bind (g_X51_openRule x3 D) (fun r11 D11 => if r11 = (-1) then (k98 D11) else (ga_bind (g_X51_openRule x3 D11) (fun r24 D24 => ga_ck (0 ≤ r24 ∧ r24 < 60) (ga_let (D24 5206 r24) (fun v28 => g_X51_missing_l36 aw_fu x1 x2 x3 v28 1 0 D24 (fun x1 x2 x3 x4 x5 D76 => if x5 = 0 then (ga_let (aw_w32 (x3 + 1)) (fun v92 => g_X51_missing_l9 n x1 x2 v92 D76 k86 k98)) else (if x2 ≠ x1 then (ga_let (aw_w32 (x2 + 1)) (fun v89 => ga_let (aw_w32 (x3 + 1)) (fun v92 => g_X51_missing_l9 n x1 v89 v92 D76 k86 k98))) else (k86 x4 D76)))))))))
    refine fr_bind (g_X51_openRule_fr) (fun r11 D11 => ?_)
    refine fr_ite (fun c15 => ?_) (fun c15 => ?_)
    exact hk98 _ 
    refine fr_bind (g_X51_openRule_fr) (fun r24 D24 => ?_)
    refine fr_ck (fun ha27 => ?_)
    refine fr_let (fun v28 => ?_)
    refine g_X51_missing_l36_fr (fun x1 x2 x3 x4 x5 D76 => ?_) _ _ _ _ _ _ _ _ 
    refine fr_ite (fun c78 => ?_) (fun c78 => ?_)
    refine fr_let (fun v92 => ?_)
    exact ih _ _ _ _ 
    refine fr_ite (fun c83 => ?_) (fun c83 => ?_)
    refine fr_let (fun v89 => ?_)
    refine fr_let (fun v92 => ?_)
    exact ih _ _ _ _ 
    exact hk86 _ _ 
theorem g_X51_missing_fr {x1 : Int} {D : ga_D} : ga_fr 5191 5208 D (g_X51_missing x1 D) := by
  unfold g_X51_missing
  refine fr_upd (by decide) (fun D2 => ?_)
  refine g_X51_missing_l9_fr (fun x4 D86 => ?_) (fun D98 => ?_) _ _ _ _ _ 
  exact fr_some
  exact fr_some
theorem g_X51_items_l8_fr  {k25 : Int → ga_D → ga_S} (hk25 : ∀ (x2 : Int) (D : ga_D), ga_fr 5191 5208 D (k25 x2 D)) : ∀ (n : Nat) (x2 x3 : Int) (D : ga_D), ga_fr 5191 5208 D (g_X51_items_l8 n x2 x3 D k25) := by
  intro n
  induction n with
  | zero => intro x2 x3 D; exact fr_none
  | succ n ih =>
    intro x2 x3 D
    show ga_fr 5191 5208 D (if x3 = (-1) then (k25 x2 D) else (ga_let (aw_w32 (x2 + 1)) (fun v13 => ga_bind (g_X51_nextItem x3 D) (fun r18 D18 => g_X51_items_l8 n v13 r18 D18 k25))))
    refine fr_ite (fun c10 => ?_) (fun c10 => ?_)
    exact hk25 _ _ 
    refine fr_let (fun v13 => ?_)
    refine fr_bind (g_X51_nextItem_fr) (fun r18 D18 => ?_)
    exact ih _ _ _ 
theorem g_X51_items_fr {x1 : Int} {D : ga_D} : ga_fr 5191 5208 D (g_X51_items x1 D) := by
  unfold g_X51_items
  refine fr_bind (g_X51_firstItem_fr) (fun r4 D4 => ?_)
  refine g_X51_items_l8_fr (fun x2 D25 => ?_) _ _ _ _ 
  exact fr_some
theorem g_X51_explain_l11_fr  {k47 : Int → Int → ga_D → ga_S} {k96 : ga_D → ga_S} (hk47 : ∀ (x3 x5 : Int) (D : ga_D), ga_fr 5191 5208 D (k47 x3 x5 D)) (hk96 : ∀ (D : ga_D), ga_fr 5191 5208 D (k96 D)) : ∀ (n : Nat) (x1 x2 x3 x4 x5 : Int) (D : ga_D), ga_fr 5191 5208 D (g_X51_explain_l11 n x1 x2 x3 x4 x5 D k47 k96) := by
  intro n
  induction n with
  | zero => intro x1 x2 x3 x4 x5 D; exact fr_none
  | succ n ih =>
    intro x1 x2 x3 x4 x5 D
    show ga_fr 5191 5208 D (if D 5191 11 ≤ x5 then (k96 D) else (ga_ck (0 ≤ x5 ∧ x5 < 60) (if D 5205 x5 ≠ 1 then (ga_let (aw_w32 (x5 + 1)) (fun v90 => g_X51_explain_l11 n x1 x2 x3 x4 v90 D k47 k96)) else (ga_bind (g_X51_classOf x5 D) (fun r34 D34 => if r34 ≠ x1 then (ga_let (aw_w32 (x5 + 1)) (fun v90 => g_X51_explain_l11 n x1 x2 x3 x4 v90 D34 k47 k96)) else (if x4 ≠ x2 then (ga_let (aw_w32 (x4 + 1)) (fun v87 => ga_let (aw_w32 (x5 + 1)) (fun v90 => g_X51_explain_l11 n x1 x2 x3 v87 v90 D34 k47 k96))) else (k47 x3 x5 D34)))))))
    refine fr_ite (fun c17 => ?_) (fun c17 => ?_)
    exact hk96 _ 
    refine fr_ck (fun ha26 => ?_)
    refine fr_ite (fun c28 => ?_) (fun c28 => ?_)
    refine fr_let (fun v90 => ?_)
    exact ih _ _ _ _ _ _ 
    refine fr_bind (g_X51_classOf_fr) (fun r34 D34 => ?_)
    refine fr_ite (fun c38 => ?_) (fun c38 => ?_)
    refine fr_let (fun v90 => ?_)
    exact ih _ _ _ _ _ _ 
    refine fr_ite (fun c44 => ?_) (fun c44 => ?_)
    refine fr_let (fun v87 => ?_)
    refine fr_let (fun v90 => ?_)
    exact ih _ _ _ _ _ _ 
    exact hk47 _ _ _ 
theorem g_X51_explain_fr {x1 x2 x3 : Int} {D : ga_D} : ga_fr 5191 5208 D (g_X51_explain x1 x2 x3 D) := by
  unfold g_X51_explain
  refine fr_upd (by decide) (fun D2 => ?_)
  refine g_X51_explain_l11_fr (fun x3 x5 D47 => ?_) (fun D96 => ?_) _ _ _ _ _ _ _ 
  refine fr_ite (fun c48 => ?_) (fun c48 => ?_)
  refine fr_ite (fun c58 => ?_) (fun c58 => ?_)
  refine fr_ite (fun c72 => ?_) (fun c72 => ?_)
  exact fr_some
  refine fr_ck (fun ha81 => ?_)
  exact fr_some
  refine fr_bind (g_X51_items_fr) (fun r64 D64 => ?_)
  exact fr_some
  exact fr_some
  exact fr_some
theorem g_X51_limit_j135_fr  {k61 : Int → Int → Int → Int → ga_D → ga_S} (hk61 : ∀ (x1 x2 x4 x5 : Int) (D : ga_D), ga_fr 5191 5208 D (k61 x1 x2 x4 x5 D)) (x1 x2 x4 x5 : Int) (D : ga_D) : ga_fr 5191 5208 D (g_X51_limit_j135 x1 x2 x4 x5 D k61) := by
  unfold g_X51_limit_j135
  refine fr_bind (g_X51_nextItem_fr) (fun r138 D138 => ?_)
  exact hk61 _ _ _ _ _ 
theorem g_X51_limit_j134_fr  {k61 : Int → Int → Int → Int → ga_D → ga_S} (hk61 : ∀ (x1 x2 x4 x5 : Int) (D : ga_D), ga_fr 5191 5208 D (k61 x1 x2 x4 x5 D)) (x1 x4 x5 s0 : Int) (D : ga_D) : ga_fr 5191 5208 D (g_X51_limit_j134 x1 x4 x5 s0 D k61) := by
  unfold g_X51_limit_j134
  refine g_X51_limit_j135_fr (fun x1 x2 x4 x5 D61 => ?_) _ _ _ _ _ 
  exact hk61 _ _ _ _ _ 
theorem g_X51_limit_j133_fr  {k61 : Int → Int → Int → Int → ga_D → ga_S} (hk61 : ∀ (x1 x2 x4 x5 : Int) (D : ga_D), ga_fr 5191 5208 D (k61 x1 x2 x4 x5 D)) (x1 x2 x4 x5 : Int) (D : ga_D) : ga_fr 5191 5208 D (g_X51_limit_j133 x1 x2 x4 x5 D k61) := by
  unfold g_X51_limit_j133
  refine g_X51_limit_j134_fr (fun x1 x2 x4 x5 D61 => ?_) _ _ _ _ _ 
  exact hk61 _ _ _ _ _ 
theorem g_X51_limit_j127_fr  {k61 : Int → Int → Int → Int → ga_D → ga_S} (hk61 : ∀ (x1 x2 x4 x5 : Int) (D : ga_D), ga_fr 5191 5208 D (k61 x1 x2 x4 x5 D)) (x1 x4 x5 x6 : Int) (D : ga_D) : ga_fr 5191 5208 D (g_X51_limit_j127 x1 x4 x5 x6 D k61) := by
  unfold g_X51_limit_j127
  refine g_X51_limit_j134_fr (fun x1 x2 x4 x5 D61 => ?_) _ _ _ _ _ 
  exact hk61 _ _ _ _ _ 
theorem g_X51_limit_l61_fr  {k146 : Int → Int → Int → ga_D → ga_S} (hk146 : ∀ (x1 x2 x4 : Int) (D : ga_D), ga_fr 5191 5208 D (k146 x1 x2 x4 D)) : ∀ (n : Nat) (x1 x2 x4 x5 : Int) (D : ga_D), ga_fr 5191 5208 D (g_X51_limit_l61 n x1 x2 x4 x5 D k146) := by
  intro n
  induction n with
  | zero => intro x1 x2 x4 x5 D; exact fr_none
  | succ n ih =>
    intro x1 x2 x4 x5 D
    show ga_fr 5191 5208 D (if x5 = (-1) then (k146 x1 x2 x4 D) else (ga_bind (g_X51_has x5 24343917 D) (fun r73 D73 => if r73 = 0 then (g_X51_limit_j135 x1 x2 x4 x5 D73 (fun x1 x2 x4 x5 D61 => g_X51_limit_l61 n x1 x2 x4 x5 D61 k146)) else (ga_bind (g_X51_add x5 1 (-1) D73) (fun r84 D84 => ga_bind (g_X51_number (aw_w32 ((D84 5191 28) + 1)) D84) (fun r94 D94 => ga_bind (g_X51_has (D94 5191 28) 6164997490 D94) (fun r107 D107 => if r107 = 0 then (g_X51_limit_j133 x1 x2 x4 x5 D107 (fun x1 x2 x4 x5 D61 => g_X51_limit_l61 n x1 x2 x4 x5 D61 k146)) else (if x2 < 0 then (g_X51_limit_j127 x1 x4 x5 r94 D107 (fun x1 x2 x4 x5 D61 => g_X51_limit_l61 n x1 x2 x4 x5 D61 k146)) else (if x2 ≤ r94 then (g_X51_limit_j133 x1 x2 x4 x5 D107 (fun x1 x2 x4 x5 D61 => g_X51_limit_l61 n x1 x2 x4 x5 D61 k146)) else (g_X51_limit_j127 x1 x4 x5 r94 D107 (fun x1 x2 x4 x5 D61 => g_X51_limit_l61 n x1 x2 x4 x5 D61 k146)))))))))))
    refine fr_ite (fun c64 => ?_) (fun c64 => ?_)
    exact hk146 _ _ _ _ 
    refine fr_bind (g_X51_has_fr) (fun r73 D73 => ?_)
    refine fr_ite (fun c76 => ?_) (fun c76 => ?_)
    refine g_X51_limit_j135_fr (fun x1 x2 x4 x5 D61 => ?_) _ _ _ _ _ 
    exact ih _ _ _ _ _ 
    refine fr_bind (g_X51_add_fr) (fun r84 D84 => ?_)
    refine fr_bind (g_X51_number_fr) (fun r94 D94 => ?_)
    refine fr_bind (g_X51_has_fr) (fun r107 D107 => ?_)
    refine fr_ite (fun c110 => ?_) (fun c110 => ?_)
    refine g_X51_limit_j133_fr (fun x1 x2 x4 x5 D61 => ?_) _ _ _ _ _ 
    exact ih _ _ _ _ _ 
    refine fr_ite (fun c116 => ?_) (fun c116 => ?_)
    refine g_X51_limit_j127_fr (fun x1 x2 x4 x5 D61 => ?_) _ _ _ _ _ 
    exact ih _ _ _ _ _ 
    refine fr_ite (fun c124 => ?_) (fun c124 => ?_)
    refine g_X51_limit_j133_fr (fun x1 x2 x4 x5 D61 => ?_) _ _ _ _ _ 
    exact ih _ _ _ _ _ 
    refine g_X51_limit_j127_fr (fun x1 x2 x4 x5 D61 => ?_) _ _ _ _ _ 
    exact ih _ _ _ _ _ 
theorem g_X51_limit_l12_fr  {k152 : Int → ga_D → ga_S} (hk152 : ∀ (x2 : Int) (D : ga_D), ga_fr 5191 5208 D (k152 x2 D)) : ∀ (n : Nat) (x1 x2 x4 : Int) (D : ga_D), ga_fr 5191 5208 D (g_X51_limit_l12 n x1 x2 x4 D k152) := by
  intro n
  induction n with
  | zero => intro x1 x2 x4 D; exact fr_none
  | succ n ih =>
    intro x1 x2 x4 D
    show ga_fr 5191 5208 D (if D 5191 11 ≤ x4 then (k152 x2 D) else (if D 5191 19 = (-1) then (k152 x2 D) else (ga_ck (0 ≤ x4 ∧ x4 < 60) (if D 5199 x4 ≠ D 5191 19 then (ga_let (aw_w32 (x4 + 1)) (fun v146 => g_X51_limit_l12 n x1 x2 v146 D k152)) else (ga_bind (g_X51_classOf x4 D) (fun r46 D46 => if r46 ≠ x1 then (ga_let (aw_w32 (x4 + 1)) (fun v146 => g_X51_limit_l12 n x1 x2 v146 D46 k152)) else (ga_bind (g_X51_firstItem x4 D46) (fun r56 D56 => g_X51_limit_l61 aw_fu x1 x2 x4 r56 D56 (fun x1 x2 x4 D146 => ga_let (aw_w32 (x4 + 1)) (fun v146 => g_X51_limit_l12 n x1 x2 v146 D146 k152))))))))))
    refine fr_ite (fun c18 => ?_) (fun c18 => ?_)
    exact hk152 _ _ 
    refine fr_ite (fun c26 => ?_) (fun c26 => ?_)
    exact hk152 _ _ 
    refine fr_ck (fun ha35 => ?_)
    refine fr_ite (fun c40 => ?_) (fun c40 => ?_)
    refine fr_let (fun v146 => ?_)
    exact ih _ _ _ _ 
    refine fr_bind (g_X51_classOf_fr) (fun r46 D46 => ?_)
    refine fr_ite (fun c50 => ?_) (fun c50 => ?_)
    refine fr_let (fun v146 => ?_)
    exact ih _ _ _ _ 
    refine fr_bind (g_X51_firstItem_fr) (fun r56 D56 => ?_)
    refine g_X51_limit_l61_fr (fun x1 x2 x4 D146 => ?_) _ _ _ _ _ _ 
    refine fr_let (fun v146 => ?_)
    exact ih _ _ _ _ 
theorem g_X51_limit_fr {x1 : Int} {D : ga_D} : ga_fr 5191 5208 D (g_X51_limit x1 D) := by
  unfold g_X51_limit
  refine fr_upd (by decide) (fun D2 => ?_)
  refine g_X51_limit_l12_fr (fun x2 D152 => ?_) _ _ _ _ _ 
  exact fr_some
theorem g_X51_sum_l46_fr  {k64 : Int → Int → Int → ga_D → ga_S} {k109 : ga_D → ga_S} (hk64 : ∀ (x2 x3 x4 : Int) (D : ga_D), ga_fr 5191 5208 D (k64 x2 x3 x4 D)) (hk109 : ∀ (D : ga_D), ga_fr 5191 5208 D (k109 D)) : ∀ (n : Nat) (x2 x3 x4 : Int) (D : ga_D), ga_fr 5191 5208 D (g_X51_sum_l46 n x2 x3 x4 D k64 k109) := by
  intro n
  induction n with
  | zero => intro x2 x3 x4 D; exact fr_none
  | succ n ih =>
    intro x2 x3 x4 D
    show ga_fr 5191 5208 D (if x4 = (-1) then (k109 D) else (ga_bind (g_X51_has x4 24343917 D) (fun r58 D58 => if r58 = 0 then (ga_bind (g_X51_nextItem x4 D58) (fun r101 D101 => g_X51_sum_l46 n x2 x3 r101 D101 k64 k109)) else (k64 x2 x3 x4 D58))))
    refine fr_ite (fun c49 => ?_) (fun c49 => ?_)
    exact hk109 _ 
    refine fr_bind (g_X51_has_fr) (fun r58 D58 => ?_)
    refine fr_ite (fun c61 => ?_) (fun c61 => ?_)
    refine fr_bind (g_X51_nextItem_fr) (fun r101 D101 => ?_)
    exact ih _ _ _ _ 
    exact hk64 _ _ _ _ 
theorem g_X51_sum_j77_fr  (x3 s0 s1 : Int) (D : ga_D) : ga_fr 5191 5208 D (g_X51_sum_j77 x3 s0 s1 D) := by
  unfold g_X51_sum_j77
  refine fr_bind (g_X51_add_fr) (fun r78 D78 => ?_)
  refine fr_ite (fun c86 => ?_) (fun c86 => ?_)
  exact fr_some
  exact fr_some
theorem g_X51_sum_fr {x1 x2 x3 : Int} {D : ga_D} : ga_fr 5191 5208 D (g_X51_sum x1 x2 x3 D) := by
  unfold g_X51_sum
  refine fr_upd (by decide) (fun D2 => ?_)
  refine fr_ite (fun c6 => ?_) (fun c6 => ?_)
  exact fr_some
  refine fr_ite (fun c14 => ?_) (fun c14 => ?_)
  exact fr_some
  refine fr_ite (fun c18 => ?_) (fun c18 => ?_)
  exact fr_some
  refine fr_ite (fun c23 => ?_) (fun c23 => ?_)
  exact fr_some
  refine fr_ite (fun c28 => ?_) (fun c28 => ?_)
  exact fr_some
  refine fr_ite (fun c34 => ?_) (fun c34 => ?_)
  refine fr_bind (g_X51_firstItem_fr) (fun r41 D41 => ?_)
  refine g_X51_sum_l46_fr (fun x2 x3 x4 D64 => ?_) (fun D109 => ?_) _ _ _ _ _ 
  refine fr_ite (fun c69 => ?_) (fun c69 => ?_)
  refine g_X51_sum_j77_fr _ _ _ _ 
  refine g_X51_sum_j77_fr _ _ _ _ 
  exact fr_some
  exact fr_some
theorem g_X51_table_l26_fr  {k37 : Int → ga_D → ga_S} {k85 : ga_D → ga_S} (hk37 : ∀ (x4 : Int) (D : ga_D), ga_fr 5191 5208 D (k37 x4 D)) (hk85 : ∀ (D : ga_D), ga_fr 5191 5208 D (k85 D)) : ∀ (n : Nat) (x2 x3 x4 : Int) (D : ga_D), ga_fr 5191 5208 D (g_X51_table_l26 n x2 x3 x4 D k37 k85) := by
  intro n
  induction n with
  | zero => intro x2 x3 x4 D; exact fr_none
  | succ n ih =>
    intro x2 x3 x4 D
    show ga_fr 5191 5208 D (if x4 = (-1) then (k85 D) else (if x3 ≠ x2 then (ga_let (aw_w32 (x3 + 1)) (fun v71 => ga_bind (g_X51_nextItem x4 D) (fun r77 D77 => g_X51_table_l26 n x2 v71 r77 D77 k37 k85))) else (k37 x4 D)))
    refine fr_ite (fun c29 => ?_) (fun c29 => ?_)
    exact hk85 _ 
    refine fr_ite (fun c34 => ?_) (fun c34 => ?_)
    refine fr_let (fun v71 => ?_)
    refine fr_bind (g_X51_nextItem_fr) (fun r77 D77 => ?_)
    exact ih _ _ _ _ 
    exact hk37 _ _ 
theorem g_X51_table_fr {x1 x2 : Int} {D : ga_D} : ga_fr 5191 5208 D (g_X51_table x1 x2 D) := by
  unfold g_X51_table
  refine fr_upd (by decide) (fun D2 => ?_)
  refine fr_ite (fun c8 => ?_) (fun c8 => ?_)
  refine fr_upd (by decide) (fun D87 => ?_)
  exact fr_some
  refine fr_ite (fun c16 => ?_) (fun c16 => ?_)
  refine fr_upd (by decide) (fun D87 => ?_)
  exact fr_some
  refine fr_bind (g_X51_firstItem_fr) (fun r21 D21 => ?_)
  refine g_X51_table_l26_fr (fun x4 D37 => ?_) (fun D85 => ?_) _ _ _ _ _ 
  refine fr_bind (g_X51_has_fr) (fun r43 D43 => ?_)
  refine fr_ite (fun c46 => ?_) (fun c46 => ?_)
  refine fr_bind (g_X51_has_fr) (fun r59 D59 => ?_)
  refine fr_ite (fun c62 => ?_) (fun c62 => ?_)
  exact fr_some
  exact fr_some
  exact fr_some
  refine fr_upd (by decide) (fun D87 => ?_)
  exact fr_some
theorem g_X51_write_j86_fr  {k9 : Int → Int → Int → ga_D → ga_S} (hk9 : ∀ (x1 x2 x3 : Int) (D : ga_D), ga_fr 5191 5208 D (k9 x1 x2 x3 D)) (x1 x2 x3 x4 : Int) (D : ga_D) : ga_fr 5191 5208 D (g_X51_write_j86 x1 x2 x3 x4 D k9) := by
  unfold g_X51_write_j86
  refine fr_let (fun v92 => ?_)
  refine fr_let (fun v93 => ?_)
  exact hk9 _ _ _ _ 
theorem g_X51_write_j65_fr  {k83 : ga_D → ga_S} {k9 : Int → Int → Int → ga_D → ga_S} (hk83 : ∀ (D : ga_D), ga_fr 5191 5208 D (k83 D)) (hk9 : ∀ (x1 x2 x3 : Int) (D : ga_D), ga_fr 5191 5208 D (k9 x1 x2 x3 D)) (x1 x2 x3 x4 : Int) (D : ga_D) : ga_fr 5191 5208 D (g_X51_write_j65 x1 x2 x3 x4 D k83 k9) := by
  unfold g_X51_write_j65
  refine fr_ite (fun c70 => ?_) (fun c70 => ?_)
  refine g_X51_write_j86_fr (fun x1 x2 x3 D9 => ?_) _ _ _ _ _ 
  exact hk9 _ _ _ _ 
  refine fr_ite (fun c80 => ?_) (fun c80 => ?_)
  refine g_X51_write_j86_fr (fun x1 x2 x3 D9 => ?_) _ _ _ _ _ 
  exact hk9 _ _ _ _ 
  exact hk83 _ 
theorem g_X51_write_l9_fr  {k45 : Int → Int → Int → ga_D → ga_S} {k83 : ga_D → ga_S} {k99 : ga_D → ga_S} (hk45 : ∀ (x1 x2 x3 : Int) (D : ga_D), ga_fr 5191 5208 D (k45 x1 x2 x3 D)) (hk83 : ∀ (D : ga_D), ga_fr 5191 5208 D (k83 D)) (hk99 : ∀ (D : ga_D), ga_fr 5191 5208 D (k99 D)) : ∀ (n : Nat) (x1 x2 x3 : Int) (D : ga_D), ga_fr 5191 5208 D (g_X51_write_l9 n x1 x2 x3 D k45 k83 k99) := by
  intro n
  induction n with
  | zero => intro x1 x2 x3 D; exact fr_none
  | succ n ih =>
    intro x1 x2 x3 D
    show ga_fr 5191 5208 D (if D 5191 5 ≤ x3 then (k99 D) else (ga_ck (0 ≤ x3 ∧ x3 < 1501) (ga_ck (0 ≤ x3 ∧ x3 < 1501) (ga_let (aw_w32 ((D 5195 x3) - (D 5194 x3))) (fun v30 => if x1 < x2 then (g_X51_write_j65 x1 x2 x3 v30 D (fun D83 => k83 D83) (fun x1 x2 x3 D9 => g_X51_write_l9 n x1 x2 x3 D9 k45 k83 k99)) else (if aw_w32 (x2 + v30) ≤ x1 then (g_X51_write_j65 x1 x2 x3 v30 D (fun D83 => k83 D83) (fun x1 x2 x3 D9 => g_X51_write_l9 n x1 x2 x3 D9 k45 k83 k99)) else (k45 x1 x2 x3 D)))))))
    refine fr_ite (fun c14 => ?_) (fun c14 => ?_)
    exact hk99 _ 
    refine fr_ck (fun ha22 => ?_)
    refine fr_ck (fun ha28 => ?_)
    refine fr_let (fun v30 => ?_)
    refine fr_ite (fun c34 => ?_) (fun c34 => ?_)
    refine g_X51_write_j65_fr (fun D83 => ?_) (fun x1 x2 x3 D9 => ?_) _ _ _ _ _ 
    exact hk83 _ 
    exact ih _ _ _ _ 
    refine fr_ite (fun c42 => ?_) (fun c42 => ?_)
    refine g_X51_write_j65_fr (fun D83 => ?_) (fun x1 x2 x3 D9 => ?_) _ _ _ _ _ 
    exact hk83 _ 
    exact ih _ _ _ _ 
    exact hk45 _ _ _ _ 
theorem g_X51_write_fr {x1 : Int} {D : ga_D} : ga_fr 5191 5208 D (g_X51_write x1 D) := by
  unfold g_X51_write
  refine fr_upd (by decide) (fun D2 => ?_)
  refine g_X51_write_l9_fr (fun x1 x2 x3 D45 => ?_) (fun D83 => ?_) (fun D99 => ?_) _ _ _ _ _ 
  refine fr_ck (fun ha54 => ?_)
  refine fr_ck (fun ha59 => ?_)
  exact fr_some
  exact fr_some
  exact fr_some
theorem g_X51_thrown_fr {D : ga_D} : ga_fr 5191 5208 D (g_X51_thrown D) := by
  unfold g_X51_thrown
  exact fr_some
