theorem g_X53_isClass_fr {x0 : Int} {D : ga_D} : ga_fr 5229 5250 D (g_X53_isClass x0 D) := by
  unfold g_X53_isClass
  refine fr_ite (fun c1 => ?_) (fun c1 => ?_)
  exact fr_some
  refine fr_ite (fun c7 => ?_) (fun c7 => ?_)
  exact fr_some
  exact fr_some
theorem g_X53_isIn_fr {x0 x2 x4 : Int} {D : ga_D} : ga_fr 5229 5250 D (g_X53_isIn x0 x2 x4 D) := by
  unfold g_X53_isIn
  refine fr_ite (fun c3 => ?_) (fun c3 => ?_)
  exact fr_some
  refine fr_ite (fun c10 => ?_) (fun c10 => ?_)
  exact fr_some
  exact fr_some
theorem g_X53_load_fr {x1 x2 x4 : Int} {D : ga_D} : ga_fr 5229 5250 D (g_X53_load x1 x2 x4 D) := by
  unfold g_X53_load
  refine fr_ite (fun c6 => ?_) (fun c6 => ?_)
  exact fr_some
  refine fr_bind (g_X53_isClass_fr) (fun r10 D10 => ?_)
  refine fr_ite (fun c13 => ?_) (fun c13 => ?_)
  exact fr_some
  refine fr_bind (g_X53_isIn_fr) (fun r21 D21 => ?_)
  refine fr_ite (fun c24 => ?_) (fun c24 => ?_)
  exact fr_some
  refine fr_bind (g_X53_isIn_fr) (fun r33 D33 => ?_)
  refine fr_ite (fun c36 => ?_) (fun c36 => ?_)
  refine fr_ck (fun ha50 => ?_)
  refine fr_upd (by decide) (fun D50 => ?_)
  refine fr_ck (fun ha60 => ?_)
  refine fr_upd (by decide) (fun D60 => ?_)
  refine fr_ck (fun ha71 => ?_)
  refine fr_upd (by decide) (fun D71 => ?_)
  refine fr_upd (by decide) (fun D79 => ?_)
  exact fr_some
  exact fr_some
theorem g_X53_isLoad_fr {x1 : Int} {D : ga_D} : ga_fr 5229 5250 D (g_X53_isLoad x1 D) := by
  unfold g_X53_isLoad
  refine fr_ite (fun c1 => ?_) (fun c1 => ?_)
  exact fr_some
  refine fr_ite (fun c9 => ?_) (fun c9 => ?_)
  exact fr_some
  exact fr_some
theorem g_X53_isPlace_fr {x1 : Int} {D : ga_D} : ga_fr 5229 5250 D (g_X53_isPlace x1 D) := by
  unfold g_X53_isPlace
  refine fr_ite (fun c1 => ?_) (fun c1 => ?_)
  exact fr_some
  refine fr_ite (fun c9 => ?_) (fun c9 => ?_)
  exact fr_some
  exact fr_some
theorem g_X53_square_fr {x1 x2 : Int} {D : ga_D} : ga_fr 5229 5250 D (g_X53_square x1 x2 D) := by
  unfold g_X53_square
  refine fr_ck (fun ha5 => ?_)
  refine fr_ck (fun ha11 => ?_)
  refine fr_ck (fun ha18 => ?_)
  refine fr_ck (fun ha24 => ?_)
  refine fr_ck (fun ha32 => ?_)
  refine fr_ck (fun ha38 => ?_)
  refine fr_ck (fun ha45 => ?_)
  refine fr_ck (fun ha51 => ?_)
  exact fr_some
theorem g_X53_isNear_fr {x1 x2 x3 : Int} {D : ga_D} : ga_fr 5229 5250 D (g_X53_isNear x1 x2 x3 D) := by
  unfold g_X53_isNear
  refine fr_ck (fun ha11 => ?_)
  refine fr_ck (fun ha18 => ?_)
  refine fr_ck (fun ha20 => ?_)
  refine fr_let (fun v21 => ?_)
  refine fr_ck (fun ha25_0 => ?_)
  refine fr_ck (fun ha25 => ?_)
  refine fr_ite (fun c26 => ?_) (fun c26 => ?_)
  exact fr_some
  refine fr_ck (fun ha31 => ?_)
  refine fr_ite (fun c32 => ?_) (fun c32 => ?_)
  exact fr_some
  refine fr_ck (fun ha38 => ?_)
  refine fr_ck (fun ha41 => ?_)
  refine fr_bind (g_X53_square_fr) (fun r42 D42 => ?_)
  refine fr_ite (fun c50 => ?_) (fun c50 => ?_)
  exact fr_some
  exact fr_some
theorem g_X53_isTooMuch_l5_fr  {k52 : Int → Int → ga_D → ga_S} (hk52 : ∀ (x2 x3 : Int) (D : ga_D), ga_fr 5229 5250 D (k52 x2 x3 D)) : ∀ (n : Nat) (x1 x2 x3 x5 : Int) (D : ga_D), ga_fr 5229 5250 D (g_X53_isTooMuch_l5 n x1 x2 x3 x5 D k52) := by
  intro n
  induction n with
  | zero => intro x1 x2 x3 x5 D; exact fr_none
  | succ n ih =>
    intro x1 x2 x3 x5 D
    show ga_fr 5229 5250 D (if D 5229 4 ≤ x5 then (k52 x2 x3 D) else (ga_ck ((ga_K x1).1 = 1000) (ga_ck (0 ≤ x5 ∧ x5 < (ga_K x1).2) (if D x1 x5 < 0 then (ga_let (aw_w64 (x3 + 0)) (fun v45 => ga_let (aw_w32 (x5 + 1)) (fun v46 => g_X53_isTooMuch_l5 n x1 x2 v45 v46 D k52))) else (ga_ck (0 ≤ x5 ∧ x5 < 6) (if D 5233 x5 ≠ x2 then (ga_let (aw_w64 (x3 + 0)) (fun v45 => ga_let (aw_w32 (x5 + 1)) (fun v46 => g_X53_isTooMuch_l5 n x1 x2 v45 v46 D k52))) else (ga_ck (0 ≤ x5 ∧ x5 < 6) (ga_let (aw_w64 (x3 + (D 5234 x5))) (fun v45 => ga_let (aw_w32 (x5 + 1)) (fun v46 => g_X53_isTooMuch_l5 n x1 x2 v45 v46 D k52))))))))))
    refine fr_ite (fun c11 => ?_) (fun c11 => ?_)
    exact hk52 _ _ _ 
    refine fr_ck (fun ha18_0 => ?_)
    refine fr_ck (fun ha18 => ?_)
    refine fr_ite (fun c19 => ?_) (fun c19 => ?_)
    refine fr_let (fun v45 => ?_)
    refine fr_let (fun v46 => ?_)
    exact ih _ _ _ _ _ 
    refine fr_ck (fun ha28 => ?_)
    refine fr_ite (fun c30 => ?_) (fun c30 => ?_)
    refine fr_let (fun v45 => ?_)
    refine fr_let (fun v46 => ?_)
    exact ih _ _ _ _ _ 
    refine fr_ck (fun ha39 => ?_)
    refine fr_let (fun v45 => ?_)
    refine fr_let (fun v46 => ?_)
    exact ih _ _ _ _ _ 
theorem g_X53_isTooMuch_fr {x1 x2 : Int} {D : ga_D} : ga_fr 5229 5250 D (g_X53_isTooMuch x1 x2 D) := by
  unfold g_X53_isTooMuch
  refine g_X53_isTooMuch_l5_fr (fun x2 x3 D52 => ?_) _ _ _ _ _ _ 
  refine fr_ck (fun ha58 => ?_)
  refine fr_ite (fun c60 => ?_) (fun c60 => ?_)
  exact fr_some
  exact fr_some
theorem g_X53_needed_l8_fr  {k67 : Int → Int → ga_D → ga_S} (hk67 : ∀ (x3 x5 : Int) (D : ga_D), ga_fr 5229 5250 D (k67 x3 x5 D)) : ∀ (n : Nat) (x1 x2 x3 x5 x7 : Int) (D : ga_D), ga_fr 5229 5250 D (g_X53_needed_l8 n x1 x2 x3 x5 x7 D k67) := by
  intro n
  induction n with
  | zero => intro x1 x2 x3 x5 x7 D; exact fr_none
  | succ n ih =>
    intro x1 x2 x3 x5 x7 D
    show ga_fr 5229 5250 D (if D 5229 4 ≤ x7 then (k67 x3 x5 D) else (ga_ck ((ga_K x1).1 = 1000) (ga_ck (0 ≤ x7 ∧ x7 < (ga_K x1).2) (if D x1 x7 ≠ x2 then (ga_let (aw_w32 (x7 + 1)) (fun v61 => g_X53_needed_l8 n x1 x2 x3 x5 v61 D k67)) else (ga_ck (0 ≤ x7 ∧ x7 < 6) (ga_let (aw_w64 (x5 + (D 5235 x7))) (fun v35 => ga_ck (0 ≤ x7 ∧ x7 < 6) (if D 5235 x7 ≤ x3 then (ga_let (aw_w32 (x7 + 1)) (fun v61 => g_X53_needed_l8 n x1 x2 x3 v35 v61 D k67)) else (ga_ck (0 ≤ x7 ∧ x7 < 6) (ga_let (D 5235 x7) (fun v60 => ga_let (aw_w32 (x7 + 1)) (fun v61 => g_X53_needed_l8 n x1 x2 v60 v35 v61 D k67))))))))))))
    refine fr_ite (fun c14 => ?_) (fun c14 => ?_)
    exact hk67 _ _ _ 
    refine fr_ck (fun ha20_0 => ?_)
    refine fr_ck (fun ha20 => ?_)
    refine fr_ite (fun c22 => ?_) (fun c22 => ?_)
    refine fr_let (fun v61 => ?_)
    exact ih _ _ _ _ _ _ 
    refine fr_ck (fun ha33 => ?_)
    refine fr_let (fun v35 => ?_)
    refine fr_ck (fun ha43 => ?_)
    refine fr_ite (fun c46 => ?_) (fun c46 => ?_)
    refine fr_let (fun v61 => ?_)
    exact ih _ _ _ _ _ _ 
    refine fr_ck (fun ha55 => ?_)
    refine fr_let (fun v60 => ?_)
    refine fr_let (fun v61 => ?_)
    exact ih _ _ _ _ _ _ 
theorem g_X53_needed_fr {x1 x2 : Int} {D : ga_D} : ga_fr 5229 5250 D (g_X53_needed x1 x2 D) := by
  unfold g_X53_needed
  refine g_X53_needed_l8_fr (fun x3 x5 D67 => ?_) _ _ _ _ _ _ _ 
  refine fr_let (fun v77 => ?_)
  refine fr_ite (fun c83 => ?_) (fun c83 => ?_)
  exact fr_some
  exact fr_some
theorem g_X53_isGood_l15_fr  {k48 : Int → Int → Int → ga_D → ga_S} (hk48 : ∀ (x1 x2 x3 : Int) (D : ga_D), ga_fr 5229 5250 D (k48 x1 x2 x3 D)) : ∀ (n : Nat) (x1 x2 x3 x4 : Int) (D : ga_D), ga_fr 5229 5250 D (g_X53_isGood_l15 n x1 x2 x3 x4 D k48) := by
  intro n
  induction n with
  | zero => intro x1 x2 x3 x4 D; exact fr_none
  | succ n ih =>
    intro x1 x2 x3 x4 D
    show ga_fr 5229 5250 D (if x3 ≤ x4 then (k48 x1 x2 x3 D) else (if x2 = 0 then (ga_let (aw_w32 (x4 + 1)) (fun v42 => g_X53_isGood_l15 n x1 0 x3 v42 D k48)) else (ga_bind (g_X53_isNear x1 x3 x4 D) (fun r30 D30 => if r30 ≠ 0 then (ga_let (aw_w32 (x4 + 1)) (fun v42 => g_X53_isGood_l15 n x1 0 x3 v42 D30 k48)) else (ga_let (aw_w32 (x4 + 1)) (fun v42 => g_X53_isGood_l15 n x1 1 x3 v42 D30 k48))))))
    refine fr_ite (fun c18 => ?_) (fun c18 => ?_)
    exact hk48 _ _ _ _ 
    refine fr_ite (fun c22 => ?_) (fun c22 => ?_)
    refine fr_let (fun v42 => ?_)
    exact ih _ _ _ _ _ 
    refine fr_bind (g_X53_isNear_fr) (fun r30 D30 => ?_)
    refine fr_ite (fun c33 => ?_) (fun c33 => ?_)
    refine fr_let (fun v42 => ?_)
    exact ih _ _ _ _ _ 
    refine fr_let (fun v42 => ?_)
    exact ih _ _ _ _ _ 
theorem g_X53_isGood_l4_fr  {k54 : Int → Int → ga_D → ga_S} (hk54 : ∀ (x1 x2 : Int) (D : ga_D), ga_fr 5229 5250 D (k54 x1 x2 D)) : ∀ (n : Nat) (x1 x2 x3 : Int) (D : ga_D), ga_fr 5229 5250 D (g_X53_isGood_l4 n x1 x2 x3 D k54) := by
  intro n
  induction n with
  | zero => intro x1 x2 x3 D; exact fr_none
  | succ n ih =>
    intro x1 x2 x3 D
    show ga_fr 5229 5250 D (if D 5229 4 ≤ x3 then (k54 x1 x2 D) else (g_X53_isGood_l15 aw_fu x1 x2 x3 0 D (fun x1 x2 x3 D48 => ga_let (aw_w32 (x3 + 1)) (fun v48 => g_X53_isGood_l4 n x1 x2 v48 D48 k54))))
    refine fr_ite (fun c9 => ?_) (fun c9 => ?_)
    exact hk54 _ _ _ 
    refine g_X53_isGood_l15_fr (fun x1 x2 x3 D48 => ?_) _ _ _ _ _ _ 
    refine fr_let (fun v48 => ?_)
    exact ih _ _ _ _ 
theorem g_X53_isGood_l56_fr  {k87 : Int → Int → ga_D → ga_S} (hk87 : ∀ (x1 x2 : Int) (D : ga_D), ga_fr 5229 5250 D (k87 x1 x2 D)) : ∀ (n : Nat) (x1 x2 x3 : Int) (D : ga_D), ga_fr 5229 5250 D (g_X53_isGood_l56 n x1 x2 x3 D k87) := by
  intro n
  induction n with
  | zero => intro x1 x2 x3 D; exact fr_none
  | succ n ih =>
    intro x1 x2 x3 D
    show ga_fr 5229 5250 D (if 6 ≤ x3 then (k87 x1 x2 D) else (if x2 = 0 then (ga_let (aw_w32 (x3 + 1)) (fun v81 => g_X53_isGood_l56 n x1 0 v81 D k87)) else (ga_bind (g_X53_isTooMuch x1 x3 D) (fun r69 D69 => if r69 ≠ 0 then (ga_let (aw_w32 (x3 + 1)) (fun v81 => g_X53_isGood_l56 n x1 0 v81 D69 k87)) else (ga_let (aw_w32 (x3 + 1)) (fun v81 => g_X53_isGood_l56 n x1 1 v81 D69 k87))))))
    refine fr_ite (fun c59 => ?_) (fun c59 => ?_)
    exact hk87 _ _ _ 
    refine fr_ite (fun c63 => ?_) (fun c63 => ?_)
    refine fr_let (fun v81 => ?_)
    exact ih _ _ _ _ 
    refine fr_bind (g_X53_isTooMuch_fr) (fun r69 D69 => ?_)
    refine fr_ite (fun c72 => ?_) (fun c72 => ?_)
    refine fr_let (fun v81 => ?_)
    exact ih _ _ _ _ 
    refine fr_let (fun v81 => ?_)
    exact ih _ _ _ _ 
theorem g_X53_isGood_l89_fr  {k130 : Int → ga_D → ga_S} (hk130 : ∀ (x2 : Int) (D : ga_D), ga_fr 5229 5250 D (k130 x2 D)) : ∀ (n : Nat) (x1 x2 x3 : Int) (D : ga_D), ga_fr 5229 5250 D (g_X53_isGood_l89 n x1 x2 x3 D k130) := by
  intro n
  induction n with
  | zero => intro x1 x2 x3 D; exact fr_none
  | succ n ih =>
    intro x1 x2 x3 D
    show ga_fr 5229 5250 D (if D 5229 0 ≤ x3 then (k130 x2 D) else (if x2 = 0 then (ga_let (aw_w32 (x3 + 1)) (fun v124 => g_X53_isGood_l89 n x1 0 v124 D k130)) else (ga_bind (g_X53_needed x1 x3 D) (fun r104 D104 => ga_ck (0 ≤ x3 ∧ x3 < 4) (if D104 5232 x3 < r104 then (ga_let (aw_w32 (x3 + 1)) (fun v124 => g_X53_isGood_l89 n x1 0 v124 D104 k130)) else (ga_let (aw_w32 (x3 + 1)) (fun v124 => g_X53_isGood_l89 n x1 1 v124 D104 k130)))))))
    refine fr_ite (fun c94 => ?_) (fun c94 => ?_)
    exact hk130 _ _ 
    refine fr_ite (fun c98 => ?_) (fun c98 => ?_)
    refine fr_let (fun v124 => ?_)
    exact ih _ _ _ _ 
    refine fr_bind (g_X53_needed_fr) (fun r104 D104 => ?_)
    refine fr_ck (fun ha112 => ?_)
    refine fr_ite (fun c115 => ?_) (fun c115 => ?_)
    refine fr_let (fun v124 => ?_)
    exact ih _ _ _ _ 
    refine fr_let (fun v124 => ?_)
    exact ih _ _ _ _ 
theorem g_X53_isGood_fr {x1 : Int} {D : ga_D} : ga_fr 5229 5250 D (g_X53_isGood x1 D) := by
  unfold g_X53_isGood
  refine g_X53_isGood_l4_fr (fun x1 x2 D54 => ?_) _ _ _ _ _ 
  refine g_X53_isGood_l56_fr (fun x1 x2 D87 => ?_) _ _ _ _ _ 
  refine g_X53_isGood_l89_fr (fun x2 D130 => ?_) _ _ _ _ _ 
  refine fr_ck (fun hr131 => ?_)
  exact fr_some
theorem g_X53_bring_fr {x1 x2 : Int} {D : ga_D} : ga_fr 5229 5250 D (g_X53_bring x1 x2 D) := by
  unfold g_X53_bring
  refine fr_ck (fun ha6 => ?_)
  refine fr_ite (fun c7 => ?_) (fun c7 => ?_)
  refine fr_ck (fun ha40 => ?_)
  refine fr_upd (by decide) (fun D40 => ?_)
  exact fr_some
  refine fr_ite (fun c11 => ?_) (fun c11 => ?_)
  refine fr_ck (fun ha40 => ?_)
  refine fr_upd (by decide) (fun D40 => ?_)
  exact fr_some
  refine fr_upd (by decide) (fun D21 => ?_)
  refine fr_ck (fun ha33 => ?_)
  refine fr_upd (by decide) (fun D33 => ?_)
  refine fr_ck (fun ha40 => ?_)
  refine fr_upd (by decide) (fun D40 => ?_)
  exact fr_some
theorem g_X53_put_l34_fr  {k67 : Int → Int → ga_D → ga_S} (hk67 : ∀ (x1 x2 : Int) (D : ga_D), ga_fr 5229 5250 D (k67 x1 x2 D)) : ∀ (n : Nat) (x1 x2 x3 : Int) (D : ga_D), ga_fr 5229 5250 D (g_X53_put_l34 n x1 x2 x3 D k67) := by
  intro n
  induction n with
  | zero => intro x1 x2 x3 D; exact fr_none
  | succ n ih =>
    intro x1 x2 x3 D
    show ga_fr 5229 5250 D (if 6 ≤ x3 then (k67 x1 x2 D) else (if x3 ≠ x1 then (ga_ck (0 ≤ x3 ∧ x3 < 6) (ga_ck (0 ≤ x3 ∧ x3 < 6) (ga_let (ga_set D 5246 x3 (D 5237 x3)) (fun D60 => ga_let (aw_w32 (x3 + 1)) (fun v61 => g_X53_put_l34 n x1 x2 v61 D60 k67))))) else (ga_ck (0 ≤ x3 ∧ x3 < 6) (ga_let (ga_set D 5246 x3 x2) (fun D60 => ga_let (aw_w32 (x3 + 1)) (fun v61 => g_X53_put_l34 n x1 x2 v61 D60 k67))))))
    refine fr_ite (fun c37 => ?_) (fun c37 => ?_)
    exact hk67 _ _ _ 
    refine fr_ite (fun c47 => ?_) (fun c47 => ?_)
    refine fr_ck (fun ha59 => ?_)
    refine fr_ck (fun ha60 => ?_)
    refine fr_upd (by decide) (fun D60 => ?_)
    refine fr_let (fun v61 => ?_)
    exact ih _ _ _ _ 
    refine fr_ck (fun ha60 => ?_)
    refine fr_upd (by decide) (fun D60 => ?_)
    refine fr_let (fun v61 => ?_)
    exact ih _ _ _ _ 
theorem g_X53_put_j83_fr  (x1 x2 : Int) (D : ga_D) : ga_fr 5229 5250 D (g_X53_put_j83 x1 x2 D) := by
  unfold g_X53_put_j83
  refine fr_bind (g_X53_bring_fr) (fun r86 D86 => ?_)
  exact fr_some
theorem g_X53_put_l93_fr  {k119 : Int → ga_D → ga_S} {k129 : Int → Int → ga_D → ga_S} (hk119 : ∀ (x3 : Int) (D : ga_D), ga_fr 5229 5250 D (k119 x3 D)) (hk129 : ∀ (x1 x2 : Int) (D : ga_D), ga_fr 5229 5250 D (k129 x1 x2 D)) : ∀ (n : Nat) (x1 x2 x3 : Int) (D : ga_D), ga_fr 5229 5250 D (g_X53_put_l93 n x1 x2 x3 D k119 k129) := by
  intro n
  induction n with
  | zero => intro x1 x2 x3 D; exact fr_none
  | succ n ih =>
    intro x1 x2 x3 D
    show ga_fr 5229 5250 D (if D 5229 4 ≤ x3 then (k129 x1 x2 D) else (if x3 = x1 then (ga_let (aw_w32 (x3 + 1)) (fun v123 => g_X53_put_l93 n x1 x2 v123 D k119 k129)) else (ga_bind (g_X53_isNear 5246 x1 x3 D) (fun r113 D113 => if r113 = 0 then (ga_let (aw_w32 (x3 + 1)) (fun v123 => g_X53_put_l93 n x1 x2 v123 D113 k119 k129)) else (k119 x3 D113)))))
    refine fr_ite (fun c98 => ?_) (fun c98 => ?_)
    exact hk129 _ _ _ 
    refine fr_ite (fun c103 => ?_) (fun c103 => ?_)
    refine fr_let (fun v123 => ?_)
    exact ih _ _ _ _ 
    refine fr_bind (g_X53_isNear_fr) (fun r113 D113 => ?_)
    refine fr_ite (fun c116 => ?_) (fun c116 => ?_)
    refine fr_let (fun v123 => ?_)
    exact ih _ _ _ _ 
    exact hk119 _ _ 
theorem g_X53_put_fr {x1 x2 : Int} {D : ga_D} : ga_fr 5229 5250 D (g_X53_put x1 x2 D) := by
  unfold g_X53_put
  refine fr_bind (g_X53_isLoad_fr) (fun r2 D2 => ?_)
  refine fr_ite (fun c5 => ?_) (fun c5 => ?_)
  exact fr_some
  refine fr_ck (fun ha13 => ?_)
  refine fr_ite (fun c14 => ?_) (fun c14 => ?_)
  exact fr_some
  refine fr_ite (fun c19 => ?_) (fun c19 => ?_)
  refine g_X53_put_l34_fr (fun x1 x2 D67 => ?_) _ _ _ _ _ 
  refine fr_ite (fun c69 => ?_) (fun c69 => ?_)
  refine g_X53_put_j83_fr _ _ _ 
  refine fr_bind (g_X53_isGood_fr) (fun r77 D77 => ?_)
  refine fr_ite (fun c80 => ?_) (fun c80 => ?_)
  refine g_X53_put_l93_fr (fun x3 D119 => ?_) (fun x1 x2 D129 => ?_) _ _ _ _ _ 
  exact fr_some
  refine fr_ck (fun ha139 => ?_)
  refine fr_bind (g_X53_isTooMuch_fr) (fun r140 D140 => ?_)
  refine fr_ite (fun c143 => ?_) (fun c143 => ?_)
  refine fr_bind (g_X53_needed_fr) (fun r157 D157 => ?_)
  refine fr_ck (fun ha165 => ?_)
  refine fr_ite (fun c168 => ?_) (fun c168 => ?_)
  exact fr_some
  exact fr_some
  exact fr_some
  refine g_X53_put_j83_fr _ _ _ 
  refine fr_bind (g_X53_isPlace_fr) (fun r24 D24 => ?_)
  refine fr_ite (fun c27 => ?_) (fun c27 => ?_)
  refine g_X53_put_l34_fr (fun x1 x2 D67 => ?_) _ _ _ _ _ 
  refine fr_ite (fun c69 => ?_) (fun c69 => ?_)
  refine g_X53_put_j83_fr _ _ _ 
  refine fr_bind (g_X53_isGood_fr) (fun r77 D77 => ?_)
  refine fr_ite (fun c80 => ?_) (fun c80 => ?_)
  refine g_X53_put_l93_fr (fun x3 D119 => ?_) (fun x1 x2 D129 => ?_) _ _ _ _ _ 
  exact fr_some
  refine fr_ck (fun ha139 => ?_)
  refine fr_bind (g_X53_isTooMuch_fr) (fun r140 D140 => ?_)
  refine fr_ite (fun c143 => ?_) (fun c143 => ?_)
  refine fr_bind (g_X53_needed_fr) (fun r157 D157 => ?_)
  refine fr_ck (fun ha165 => ?_)
  refine fr_ite (fun c168 => ?_) (fun c168 => ?_)
  exact fr_some
  exact fr_some
  exact fr_some
  refine g_X53_put_j83_fr _ _ _ 
  exact fr_some
theorem g_X53_kept_fr {D : ga_D} : ga_fr 5229 5250 D (g_X53_kept D) := by
  unfold g_X53_kept
  refine fr_bind (g_X53_isGood_fr) (fun r5 D5 => ?_)
  refine fr_ck (fun hr8 => ?_)
  exact fr_some
theorem g_X53_bar_fr {x1 x2 x3 : Int} {D : ga_D} : ga_fr 5229 5250 D (g_X53_bar x1 x2 x3 D) := by
  unfold g_X53_bar
  refine fr_bind (g_X53_isClass_fr) (fun r1 D1 => ?_)
  refine fr_ite (fun c4 => ?_) (fun c4 => ?_)
  exact fr_some
  refine fr_bind (g_X53_isClass_fr) (fun r8 D8 => ?_)
  refine fr_ite (fun c11 => ?_) (fun c11 => ?_)
  exact fr_some
  refine fr_bind (g_X53_isIn_fr) (fun r20 D20 => ?_)
  refine fr_ite (fun c23 => ?_) (fun c23 => ?_)
  refine fr_ck (fun ha39 => ?_)
  refine fr_upd (by decide) (fun D39 => ?_)
  refine fr_ck (fun ha51 => ?_)
  refine fr_upd (by decide) (fun D51 => ?_)
  exact fr_some
  exact fr_some
theorem g_X53_most_fr {x1 x2 : Int} {D : ga_D} : ga_fr 5229 5250 D (g_X53_most x1 x2 D) := by
  unfold g_X53_most
  refine fr_bind (g_X53_isClass_fr) (fun r1 D1 => ?_)
  refine fr_ite (fun c4 => ?_) (fun c4 => ?_)
  exact fr_some
  refine fr_bind (g_X53_isIn_fr) (fun r12 D12 => ?_)
  refine fr_ite (fun c15 => ?_) (fun c15 => ?_)
  refine fr_ck (fun ha26 => ?_)
  refine fr_upd (by decide) (fun D26 => ?_)
  exact fr_some
  exact fr_some
theorem g_X53_place_fr {x1 x3 x5 : Int} {D : ga_D} : ga_fr 5229 5250 D (g_X53_place x1 x3 x5 D) := by
  unfold g_X53_place
  refine fr_ite (fun c5 => ?_) (fun c5 => ?_)
  exact fr_some
  refine fr_bind (g_X53_isIn_fr) (fun r15 D15 => ?_)
  refine fr_ite (fun c18 => ?_) (fun c18 => ?_)
  exact fr_some
  refine fr_bind (g_X53_isIn_fr) (fun r28 D28 => ?_)
  refine fr_ite (fun c31 => ?_) (fun c31 => ?_)
  exact fr_some
  refine fr_bind (g_X53_isIn_fr) (fun r40 D40 => ?_)
  refine fr_ite (fun c43 => ?_) (fun c43 => ?_)
  refine fr_ck (fun ha58 => ?_)
  refine fr_upd (by decide) (fun D58 => ?_)
  refine fr_ck (fun ha69 => ?_)
  refine fr_upd (by decide) (fun D69 => ?_)
  refine fr_ck (fun ha81 => ?_)
  refine fr_upd (by decide) (fun D81 => ?_)
  refine fr_upd (by decide) (fun D89 => ?_)
  exact fr_some
  exact fr_some
theorem g_X53_placeOf_fr {x1 : Int} {D : ga_D} : ga_fr 5229 5250 D (g_X53_placeOf x1 D) := by
  unfold g_X53_placeOf
  refine fr_bind (g_X53_isLoad_fr) (fun r2 D2 => ?_)
  refine fr_ite (fun c5 => ?_) (fun c5 => ?_)
  exact fr_some
  refine fr_ck (fun ha13 => ?_)
  exact fr_some
theorem g_X53_next_l4_fr  {k32 : Int → ga_D → ga_S} {k57 : ga_D → ga_S} (hk32 : ∀ (x2 : Int) (D : ga_D), ga_fr 5229 5250 D (k32 x2 D)) (hk57 : ∀ (D : ga_D), ga_fr 5229 5250 D (k57 D)) : ∀ (n : Nat) (x2 : Int) (D : ga_D), ga_fr 5229 5250 D (g_X53_next_l4 n x2 D k32 k57) := by
  intro n
  induction n with
  | zero => intro x2 D; exact fr_none
  | succ n ih =>
    intro x2 D
    show ga_fr 5229 5250 D (if x2 < 0 then (k57 D) else (ga_ck (0 ≤ x2 ∧ x2 < 6) (if D 5236 x2 ≠ 0 then (ga_let (aw_w32 (x2 + (-1))) (fun v51 => g_X53_next_l4 n v51 D k32 k57)) else (ga_ck (0 ≤ x2 ∧ x2 < 6) (if aw_w32 ((D 5229 0) - 1) ≤ D 5246 x2 then (ga_ck (0 ≤ x2 ∧ x2 < 6) (ga_let (ga_set D 5246 x2 0) (fun D50 => ga_let (aw_w32 (x2 + (-1))) (fun v51 => g_X53_next_l4 n v51 D50 k32 k57)))) else (k32 x2 D))))))
    refine fr_ite (fun c5 => ?_) (fun c5 => ?_)
    exact hk57 _ 
    refine fr_ck (fun ha13 => ?_)
    refine fr_ite (fun c14 => ?_) (fun c14 => ?_)
    refine fr_let (fun v51 => ?_)
    exact ih _ _ 
    refine fr_ck (fun ha22 => ?_)
    refine fr_ite (fun c29 => ?_) (fun c29 => ?_)
    refine fr_ck (fun ha50 => ?_)
    refine fr_upd (by decide) (fun D50 => ?_)
    refine fr_let (fun v51 => ?_)
    exact ih _ _ 
    exact hk32 _ _ 
theorem g_X53_next_fr {x1 : Int} {D : ga_D} : ga_fr 5229 5250 D (g_X53_next x1 D) := by
  unfold g_X53_next
  refine fr_let (fun v3 => ?_)
  refine g_X53_next_l4_fr (fun x2 D32 => ?_) (fun D57 => ?_) _ _ _ 
  refine fr_ck (fun ha38 => ?_)
  refine fr_ck (fun ha41 => ?_)
  refine fr_upd (by decide) (fun D41 => ?_)
  exact fr_some
  exact fr_some
theorem g_X53_plan_j57_fr  {k18 : Int → Int → Int → ga_D → ga_S} (hk18 : ∀ (x1 x2 x3 : Int) (D : ga_D), ga_fr 5229 5250 D (k18 x1 x2 x3 D)) (x1 x2 x3 s0 s1 s2 : Int) (D : ga_D) : ga_fr 5229 5250 D (g_X53_plan_j57 x1 x2 x3 s0 s1 s2 D k18) := by
  unfold g_X53_plan_j57
  refine fr_ck (fun ha57_0 => ?_)
  refine fr_ck (fun hg57_1 => ?_)
  refine fr_ck (fun ha57 => ?_)
  refine fr_upd (by omega) (fun D57 => ?_)
  refine fr_ite (fun c61 => ?_) (fun c61 => ?_)
  refine fr_let (fun v79 => ?_)
  refine fr_let (fun v80 => ?_)
  exact hk18 _ _ _ _ 
  refine fr_ck (fun ha69 => ?_)
  refine fr_ite (fun c70 => ?_) (fun c70 => ?_)
  refine fr_let (fun v79 => ?_)
  refine fr_let (fun v80 => ?_)
  exact hk18 _ _ _ _ 
  refine fr_let (fun v79 => ?_)
  refine fr_let (fun v80 => ?_)
  exact hk18 _ _ _ _ 
theorem g_X53_plan_l18_fr  {k86 : Int → Int → ga_D → ga_S} (hk86 : ∀ (x1 x2 : Int) (D : ga_D), ga_fr 5229 5250 D (k86 x1 x2 D)) : ∀ (n : Nat) (x1 x2 x3 : Int) (D : ga_D), ga_fr 5229 5250 D (g_X53_plan_l18 n x1 x2 x3 D k86) := by
  intro n
  induction n with
  | zero => intro x1 x2 x3 D; exact fr_none
  | succ n ih =>
    intro x1 x2 x3 D
    show ga_fr 5229 5250 D (if 6 ≤ x3 then (k86 x1 x2 D) else (if x1 ≤ x3 then (ga_ck (0 ≤ x3 ∧ x3 < 6) (g_X53_plan_j57 x1 x2 x3 (D 5237 x3) x3 5246 D (fun x1 x2 x3 D18 => g_X53_plan_l18 n x1 x2 x3 D18 k86))) else (ga_ck (0 ≤ x3 ∧ x3 < 6) (if D 5236 x3 = 0 then (g_X53_plan_j57 x1 x2 x3 0 x3 5246 D (fun x1 x2 x3 D18 => g_X53_plan_l18 n x1 x2 x3 D18 k86)) else (g_X53_plan_j57 x1 x2 x3 (-1) x3 5246 D (fun x1 x2 x3 D18 => g_X53_plan_l18 n x1 x2 x3 D18 k86))))))
    refine fr_ite (fun c21 => ?_) (fun c21 => ?_)
    exact hk86 _ _ _ 
    refine fr_ite (fun c31 => ?_) (fun c31 => ?_)
    refine fr_ck (fun ha56 => ?_)
    refine g_X53_plan_j57_fr (fun x1 x2 x3 D18 => ?_) _ _ _ _ _ _ _ 
    exact ih _ _ _ _ 
    refine fr_ck (fun ha39 => ?_)
    refine fr_ite (fun c40 => ?_) (fun c40 => ?_)
    refine g_X53_plan_j57_fr (fun x1 x2 x3 D18 => ?_) _ _ _ _ _ _ _ 
    exact ih _ _ _ _ 
    refine g_X53_plan_j57_fr (fun x1 x2 x3 D18 => ?_) _ _ _ _ _ _ _ 
    exact ih _ _ _ _ 
theorem g_X53_plan_l103_fr  {k118 : Int → Int → ga_D → ga_S} {k157 : ga_D → ga_S} (hk118 : ∀ (x1 x2 : Int) (D : ga_D), ga_fr 5229 5250 D (k118 x1 x2 D)) (hk157 : ∀ (D : ga_D), ga_fr 5229 5250 D (k157 D)) : ∀ (n : Nat) (x1 x2 x3 : Int) (D : ga_D), ga_fr 5229 5250 D (g_X53_plan_l103 n x1 x2 x3 D k118 k157) := by
  intro n
  induction n with
  | zero => intro x1 x2 x3 D; exact fr_none
  | succ n ih =>
    intro x1 x2 x3 D
    show ga_fr 5229 5250 D (if x3 = 0 then (k157 D) else (ga_bind (g_X53_isGood 5246 D) (fun r112 D112 => if r112 = 0 then (ga_bind (g_X53_next x1 D112) (fun r150 D150 => g_X53_plan_l103 n x1 x2 r150 D150 k118 k157)) else (k118 x1 x2 D112))))
    refine fr_ite (fun c104 => ?_) (fun c104 => ?_)
    exact hk157 _ 
    refine fr_bind (g_X53_isGood_fr) (fun r112 D112 => ?_)
    refine fr_ite (fun c115 => ?_) (fun c115 => ?_)
    refine fr_bind (g_X53_next_fr) (fun r150 D150 => ?_)
    exact ih _ _ _ _ 
    exact hk118 _ _ _ 
theorem g_X53_plan_l121_fr  {k146 : Int → ga_D → ga_S} (hk146 : ∀ (x2 : Int) (D : ga_D), ga_fr 5229 5250 D (k146 x2 D)) : ∀ (n : Nat) (x1 x2 x4 : Int) (D : ga_D), ga_fr 5229 5250 D (g_X53_plan_l121 n x1 x2 x4 D k146) := by
  intro n
  induction n with
  | zero => intro x1 x2 x4 D; exact fr_none
  | succ n ih =>
    intro x1 x2 x4 D
    show ga_fr 5229 5250 D (if x1 ≤ x4 then (k146 x2 D) else (ga_ck (0 ≤ x4 ∧ x4 < 6) (ga_bind (g_X53_bring x4 (D 5246 x4) D) (fun r137 D137 => ga_let (aw_w32 (x4 + 1)) (fun v140 => g_X53_plan_l121 n x1 x2 v140 D137 k146)))))
    refine fr_ite (fun c124 => ?_) (fun c124 => ?_)
    exact hk146 _ _ 
    refine fr_ck (fun ha136 => ?_)
    refine fr_bind (g_X53_bring_fr) (fun r137 D137 => ?_)
    refine fr_let (fun v140 => ?_)
    exact ih _ _ _ _ 
theorem g_X53_plan_fr {x1 : Int} {D : ga_D} : ga_fr 5229 5250 D (g_X53_plan x1 D) := by
  unfold g_X53_plan
  refine fr_ite (fun c1 => ?_) (fun c1 => ?_)
  exact fr_some
  refine fr_ite (fun c9 => ?_) (fun c9 => ?_)
  refine g_X53_plan_l18_fr (fun x1 x2 D86 => ?_) _ _ _ _ _ 
  refine fr_ite (fun c90 => ?_) (fun c90 => ?_)
  refine g_X53_plan_l103_fr (fun x1 x2 D118 => ?_) (fun D157 => ?_) _ _ _ _ _ 
  refine g_X53_plan_l121_fr (fun x2 D146 => ?_) _ _ _ _ _ 
  exact fr_some
  exact fr_some
  refine fr_ite (fun c94 => ?_) (fun c94 => ?_)
  refine g_X53_plan_l103_fr (fun x1 x2 D118 => ?_) (fun D157 => ?_) _ _ _ _ _ 
  refine g_X53_plan_l121_fr (fun x2 D146 => ?_) _ _ _ _ _ 
  exact fr_some
  exact fr_some
  refine g_X53_plan_l103_fr (fun x1 x2 D118 => ?_) (fun D157 => ?_) _ _ _ _ _ 
  refine g_X53_plan_l121_fr (fun x2 D146 => ?_) _ _ _ _ _ 
  exact fr_some
  exact fr_some
  exact fr_some
theorem g_X53_statesOfLoads_fr {D : ga_D} : ga_fr 5229 5250 D (g_X53_statesOfLoads D) := by
  unfold g_X53_statesOfLoads
  refine fr_ck (fun ha8 => ?_)
  exact fr_some
theorem g_X53_digit_fr {x1 x2 : Int} {D : ga_D} : ga_fr 5229 5250 D (g_X53_digit x1 x2 D) := by
  unfold g_X53_digit
  refine fr_ck (fun ha6 => ?_)
  refine fr_ck (fun hz7 => ?_)
  exact fr_some
theorem g_X53_judgeAll_j45_fr  {k14 : Int → Int → Int → ga_D → ga_S} (hk14 : ∀ (x1 x2 x3 : Int) (D : ga_D), ga_fr 5229 5250 D (k14 x1 x2 x3 D)) (x1 x2 x3 s0 s1 s2 : Int) (D : ga_D) : ga_fr 5229 5250 D (g_X53_judgeAll_j45 x1 x2 x3 s0 s1 s2 D k14) := by
  unfold g_X53_judgeAll_j45
  refine fr_ck (fun ha45_0 => ?_)
  refine fr_ck (fun hg45_1 => ?_)
  refine fr_ck (fun ha45 => ?_)
  refine fr_upd (by omega) (fun D45 => ?_)
  refine fr_ite (fun c47 => ?_) (fun c47 => ?_)
  refine fr_let (fun v87 => ?_)
  exact hk14 _ _ _ _ 
  refine fr_ck (fun ha55 => ?_)
  refine fr_ite (fun c60 => ?_) (fun c60 => ?_)
  refine fr_let (fun v87 => ?_)
  exact hk14 _ _ _ _ 
  refine fr_ck (fun ha68 => ?_)
  refine fr_ite (fun c69 => ?_) (fun c69 => ?_)
  refine fr_let (fun v87 => ?_)
  exact hk14 _ _ _ _ 
  refine fr_ck (fun ha77 => ?_)
  refine fr_ite (fun c78 => ?_) (fun c78 => ?_)
  refine fr_let (fun v87 => ?_)
  exact hk14 _ _ _ _ 
  refine fr_let (fun v87 => ?_)
  exact hk14 _ _ _ _ 
theorem g_X53_judgeAll_l14_fr  {k93 : Int → Int → ga_D → ga_S} (hk93 : ∀ (x1 x2 : Int) (D : ga_D), ga_fr 5229 5250 D (k93 x1 x2 D)) : ∀ (n : Nat) (x1 x2 x3 : Int) (D : ga_D), ga_fr 5229 5250 D (g_X53_judgeAll_l14 n x1 x2 x3 D k93) := by
  intro n
  induction n with
  | zero => intro x1 x2 x3 D; exact fr_none
  | succ n ih =>
    intro x1 x2 x3 D
    show ga_fr 5229 5250 D (if 6 ≤ x3 then (k93 x1 x2 D) else (if D 5229 4 ≤ x3 then (g_X53_judgeAll_j45 x1 x2 x3 (-1) x3 5246 D (fun x1 x2 x3 D14 => g_X53_judgeAll_l14 n x1 x2 x3 D14 k93)) else (ga_bind (g_X53_digit x1 x3 D) (fun r36 D36 => g_X53_judgeAll_j45 x1 x2 x3 (aw_w32 (r36 - 1)) x3 5246 D36 (fun x1 x2 x3 D14 => g_X53_judgeAll_l14 n x1 x2 x3 D14 k93)))))
    refine fr_ite (fun c17 => ?_) (fun c17 => ?_)
    exact hk93 _ _ _ 
    refine fr_ite (fun c30 => ?_) (fun c30 => ?_)
    refine g_X53_judgeAll_j45_fr (fun x1 x2 x3 D14 => ?_) _ _ _ _ _ _ _ 
    exact ih _ _ _ _ 
    refine fr_bind (g_X53_digit_fr) (fun r36 D36 => ?_)
    refine g_X53_judgeAll_j45_fr (fun x1 x2 x3 D14 => ?_) _ _ _ _ _ _ _ 
    exact ih _ _ _ _ 
theorem g_X53_judgeAll_l2_fr  {k125 : ga_D → ga_S} (hk125 : ∀ (D : ga_D), ga_fr 5229 5250 D (k125 D)) : ∀ (n : Nat) (x1 : Int) (D : ga_D), ga_fr 5229 5250 D (g_X53_judgeAll_l2 n x1 D k125) := by
  intro n
  induction n with
  | zero => intro x1 D; exact fr_none
  | succ n ih =>
    intro x1 D
    show ga_fr 5229 5250 D (ga_bind (g_X53_statesOfLoads D) (fun r4 D4 => if r4 ≤ x1 then (k125 D4) else (g_X53_judgeAll_l14 aw_fu x1 1 0 D4 (fun x1 x2 D93 => if x2 = 0 then (ga_ck (0 ≤ x1 ∧ x1 < 15625) (ga_let (ga_set D93 5244 x1 0) (fun D118 => ga_let (aw_w32 (x1 + 1)) (fun v119 => g_X53_judgeAll_l2 n v119 D118 k125)))) else (ga_bind (g_X53_isGood 5246 D93) (fun r107 D107 => if r107 = 0 then (ga_ck (0 ≤ x1 ∧ x1 < 15625) (ga_let (ga_set D107 5244 x1 0) (fun D118 => ga_let (aw_w32 (x1 + 1)) (fun v119 => g_X53_judgeAll_l2 n v119 D118 k125)))) else (ga_ck (0 ≤ x1 ∧ x1 < 15625) (ga_let (ga_set D107 5244 x1 1) (fun D118 => ga_let (aw_w32 (x1 + 1)) (fun v119 => g_X53_judgeAll_l2 n v119 D118 k125))))))))))
    refine fr_bind (g_X53_statesOfLoads_fr) (fun r4 D4 => ?_)
    refine fr_ite (fun c7 => ?_) (fun c7 => ?_)
    exact hk125 _ 
    refine g_X53_judgeAll_l14_fr (fun x1 x2 D93 => ?_) _ _ _ _ _ 
    refine fr_ite (fun c99 => ?_) (fun c99 => ?_)
    refine fr_ck (fun ha118 => ?_)
    refine fr_upd (by decide) (fun D118 => ?_)
    refine fr_let (fun v119 => ?_)
    exact ih _ _ 
    refine fr_bind (g_X53_isGood_fr) (fun r107 D107 => ?_)
    refine fr_ite (fun c110 => ?_) (fun c110 => ?_)
    refine fr_ck (fun ha118 => ?_)
    refine fr_upd (by decide) (fun D118 => ?_)
    refine fr_let (fun v119 => ?_)
    exact ih _ _ 
    refine fr_ck (fun ha118 => ?_)
    refine fr_upd (by decide) (fun D118 => ?_)
    refine fr_let (fun v119 => ?_)
    exact ih _ _ 
theorem g_X53_judgeAll_fr {D : ga_D} : ga_fr 5229 5250 D (g_X53_judgeAll D) := by
  unfold g_X53_judgeAll
  refine g_X53_judgeAll_l2_fr (fun D125 => ?_) _ _ _ 
  exact fr_some
theorem g_X53_stateNow_l4_fr  {k36 : Int → ga_D → ga_S} (hk36 : ∀ (x1 : Int) (D : ga_D), ga_fr 5229 5250 D (k36 x1 D)) : ∀ (n : Nat) (x1 x2 : Int) (D : ga_D), ga_fr 5229 5250 D (g_X53_stateNow_l4 n x1 x2 D k36) := by
  intro n
  induction n with
  | zero => intro x1 x2 D; exact fr_none
  | succ n ih =>
    intro x1 x2 D
    show ga_fr 5229 5250 D (if D 5229 4 ≤ x2 then (k36 x1 D) else (ga_ck (0 ≤ x2 ∧ x2 < 6) (ga_ck (0 ≤ x2 ∧ x2 < 7) (ga_let (aw_w32 (x1 + (aw_w32 ((aw_w32 ((D 5237 x2) + 1)) * (D 5249 x2))))) (fun v29 => ga_let (aw_w32 (x2 + 1)) (fun v30 => g_X53_stateNow_l4 n v29 v30 D k36))))))
    refine fr_ite (fun c9 => ?_) (fun c9 => ?_)
    exact hk36 _ _ 
    refine fr_ck (fun ha18 => ?_)
    refine fr_ck (fun ha26 => ?_)
    refine fr_let (fun v29 => ?_)
    refine fr_let (fun v30 => ?_)
    exact ih _ _ _ 
theorem g_X53_stateNow_fr {D : ga_D} : ga_fr 5229 5250 D (g_X53_stateNow D) := by
  unfold g_X53_stateNow
  refine g_X53_stateNow_l4_fr (fun x1 D36 => ?_) _ _ _ _ 
  exact fr_some
theorem g_X53_leastBehind_l16_fr  {k99 : Int → Int → Int → ga_D → ga_S} (hk99 : ∀ (x1 x2 x3 : Int) (D : ga_D), ga_fr 5229 5250 D (k99 x1 x2 x3 D)) : ∀ (n : Nat) (x1 x2 x3 x4 : Int) (D : ga_D), ga_fr 5229 5250 D (g_X53_leastBehind_l16 n x1 x2 x3 x4 D k99) := by
  intro n
  induction n with
  | zero => intro x1 x2 x3 x4 D; exact fr_none
  | succ n ih =>
    intro x1 x2 x3 x4 D
    show ga_fr 5229 5250 D (if D 5229 0 < x4 then (k99 x1 x2 x3 D) else (ga_ck (0 ≤ x3 ∧ x3 < 6) (if D 5236 x3 ≠ 0 then (k99 x1 x2 x3 D) else (ga_bind (g_X53_digit x1 x3 D) (fun r40 D40 => ga_ck (0 ≤ x3 ∧ x3 < 7) (ga_let (aw_w32 (x1 + (aw_w32 ((aw_w32 (x4 - r40)) * (D40 5249 x3))))) (fun v52 => if v52 = x1 then (ga_let (aw_w32 (x4 + 1)) (fun v93 => g_X53_leastBehind_l16 n x1 x2 x3 v93 D40 k99)) else (ga_ck (0 ≤ v52 ∧ v52 < 15625) (if D40 5244 v52 = 0 then (ga_let (aw_w32 (x4 + 1)) (fun v93 => g_X53_leastBehind_l16 n x1 x2 x3 v93 D40 k99)) else (ga_ck (0 ≤ v52 ∧ v52 < 15625) (if x2 ≤ D40 5245 v52 then (ga_let (aw_w32 (x4 + 1)) (fun v93 => g_X53_leastBehind_l16 n x1 x2 x3 v93 D40 k99)) else (ga_ck (0 ≤ v52 ∧ v52 < 15625) (ga_let (D40 5245 v52) (fun v92 => ga_let (aw_w32 (x4 + 1)) (fun v93 => g_X53_leastBehind_l16 n x1 v92 x3 v93 D40 k99)))))))))))))))
    refine fr_ite (fun c22 => ?_) (fun c22 => ?_)
    exact hk99 _ _ _ _ 
    refine fr_ck (fun ha30 => ?_)
    refine fr_ite (fun c31 => ?_) (fun c31 => ?_)
    exact hk99 _ _ _ _ 
    refine fr_bind (g_X53_digit_fr) (fun r40 D40 => ?_)
    refine fr_ck (fun ha49 => ?_)
    refine fr_let (fun v52 => ?_)
    refine fr_ite (fun c57 => ?_) (fun c57 => ?_)
    refine fr_let (fun v93 => ?_)
    exact ih _ _ _ _ _ 
    refine fr_ck (fun ha66 => ?_)
    refine fr_ite (fun c67 => ?_) (fun c67 => ?_)
    refine fr_let (fun v93 => ?_)
    exact ih _ _ _ _ _ 
    refine fr_ck (fun ha76 => ?_)
    refine fr_ite (fun c78 => ?_) (fun c78 => ?_)
    refine fr_let (fun v93 => ?_)
    exact ih _ _ _ _ _ 
    refine fr_ck (fun ha87 => ?_)
    refine fr_let (fun v92 => ?_)
    refine fr_let (fun v93 => ?_)
    exact ih _ _ _ _ _ 
theorem g_X53_leastBehind_l5_fr  {k105 : Int → ga_D → ga_S} (hk105 : ∀ (x2 : Int) (D : ga_D), ga_fr 5229 5250 D (k105 x2 D)) : ∀ (n : Nat) (x1 x2 x3 : Int) (D : ga_D), ga_fr 5229 5250 D (g_X53_leastBehind_l5 n x1 x2 x3 D k105) := by
  intro n
  induction n with
  | zero => intro x1 x2 x3 D; exact fr_none
  | succ n ih =>
    intro x1 x2 x3 D
    show ga_fr 5229 5250 D (if D 5229 4 ≤ x3 then (k105 x2 D) else (g_X53_leastBehind_l16 aw_fu x1 x2 x3 0 D (fun x1 x2 x3 D99 => ga_let (aw_w32 (x3 + 1)) (fun v99 => g_X53_leastBehind_l5 n x1 x2 v99 D99 k105))))
    refine fr_ite (fun c10 => ?_) (fun c10 => ?_)
    exact hk105 _ _ 
    refine g_X53_leastBehind_l16_fr (fun x1 x2 x3 D99 => ?_) _ _ _ _ _ _ 
    refine fr_let (fun v99 => ?_)
    exact ih _ _ _ _ 
theorem g_X53_leastBehind_fr {x1 : Int} {D : ga_D} : ga_fr 5229 5250 D (g_X53_leastBehind x1 D) := by
  unfold g_X53_leastBehind
  refine g_X53_leastBehind_l5_fr (fun x2 D105 => ?_) _ _ _ _ _ 
  exact fr_some
theorem g_X53_stepFrom_l12_fr  {k82 : Int → Int → Int → ga_D → ga_S} {k123 : Int → Int → ga_D → ga_S} (hk82 : ∀ (x2 x3 x4 : Int) (D : ga_D), ga_fr 5229 5250 D (k82 x2 x3 x4 D)) (hk123 : ∀ (x1 x2 : Int) (D : ga_D), ga_fr 5229 5250 D (k123 x1 x2 D)) : ∀ (n : Nat) (x1 x2 x3 : Int) (D : ga_D), ga_fr 5229 5250 D (g_X53_stepFrom_l12 n x1 x2 x3 D k82 k123) := by
  intro n
  induction n with
  | zero => intro x1 x2 x3 D; exact fr_none
  | succ n ih =>
    intro x1 x2 x3 D
    show ga_fr 5229 5250 D (if D 5229 0 < x3 then (k123 x1 x2 D) else (ga_ck (0 ≤ x2 ∧ x2 < 6) (if D 5236 x2 ≠ 0 then (k123 x1 x2 D) else (ga_bind (g_X53_digit x1 x2 D) (fun r34 D34 => ga_ck (0 ≤ x2 ∧ x2 < 7) (ga_let (aw_w32 (x1 + (aw_w32 ((aw_w32 (x3 - r34)) * (D34 5249 x2))))) (fun v46 => if v46 = x1 then (ga_let (aw_w32 (x3 + 1)) (fun v117 => g_X53_stepFrom_l12 n x1 x2 v117 D34 k82 k123)) else (ga_ck (0 ≤ v46 ∧ v46 < 15625) (if D34 5244 v46 = 0 then (ga_let (aw_w32 (x3 + 1)) (fun v117 => g_X53_stepFrom_l12 n x1 x2 v117 D34 k82 k123)) else (ga_ck (0 ≤ v46 ∧ v46 < 15625) (ga_ck (0 ≤ x1 ∧ x1 < 15625) (if aw_w32 ((D34 5245 v46) + 1) ≠ D34 5245 x1 then (ga_let (aw_w32 (x3 + 1)) (fun v117 => g_X53_stepFrom_l12 n x1 x2 v117 D34 k82 k123)) else (k82 x2 x3 v46 D34)))))))))))))
    refine fr_ite (fun c17 => ?_) (fun c17 => ?_)
    exact hk123 _ _ _ 
    refine fr_ck (fun ha25 => ?_)
    refine fr_ite (fun c26 => ?_) (fun c26 => ?_)
    exact hk123 _ _ _ 
    refine fr_bind (g_X53_digit_fr) (fun r34 D34 => ?_)
    refine fr_ck (fun ha43 => ?_)
    refine fr_let (fun v46 => ?_)
    refine fr_ite (fun c51 => ?_) (fun c51 => ?_)
    refine fr_let (fun v117 => ?_)
    exact ih _ _ _ _ 
    refine fr_ck (fun ha60 => ?_)
    refine fr_ite (fun c61 => ?_) (fun c61 => ?_)
    refine fr_let (fun v117 => ?_)
    exact ih _ _ _ _ 
    refine fr_ck (fun ha70 => ?_)
    refine fr_ck (fun ha78 => ?_)
    refine fr_ite (fun c79 => ?_) (fun c79 => ?_)
    refine fr_let (fun v117 => ?_)
    exact ih _ _ _ _ 
    exact hk82 _ _ _ _ 
theorem g_X53_stepFrom_l2_fr  {k82 : Int → Int → Int → ga_D → ga_S} {k129 : Int → ga_D → ga_S} (hk82 : ∀ (x2 x3 x4 : Int) (D : ga_D), ga_fr 5229 5250 D (k82 x2 x3 x4 D)) (hk129 : ∀ (x1 : Int) (D : ga_D), ga_fr 5229 5250 D (k129 x1 D)) : ∀ (n : Nat) (x1 x2 : Int) (D : ga_D), ga_fr 5229 5250 D (g_X53_stepFrom_l2 n x1 x2 D k82 k129) := by
  intro n
  induction n with
  | zero => intro x1 x2 D; exact fr_none
  | succ n ih =>
    intro x1 x2 D
    show ga_fr 5229 5250 D (if D 5229 4 ≤ x2 then (k129 x1 D) else (g_X53_stepFrom_l12 aw_fu x1 x2 0 D (fun x2 x3 x4 D82 => k82 x2 x3 x4 D82) (fun x1 x2 D123 => ga_let (aw_w32 (x2 + 1)) (fun v123 => g_X53_stepFrom_l2 n x1 v123 D123 k82 k129))))
    refine fr_ite (fun c7 => ?_) (fun c7 => ?_)
    exact hk129 _ _ 
    refine g_X53_stepFrom_l12_fr (fun x2 x3 x4 D82 => ?_) (fun x1 x2 D123 => ?_) _ _ _ _ _ 
    exact hk82 _ _ _ _ 
    refine fr_let (fun v123 => ?_)
    exact ih _ _ _ 
theorem g_X53_stepFrom_fr {x1 : Int} {D : ga_D} : ga_fr 5229 5250 D (g_X53_stepFrom x1 D) := by
  unfold g_X53_stepFrom
  refine g_X53_stepFrom_l2_fr (fun x2 x3 x4 D82 => ?_) (fun x1 D129 => ?_) _ _ _ _ 
  refine fr_ck (fun ha91 => ?_)
  refine fr_upd (by decide) (fun D91 => ?_)
  refine fr_ck (fun ha103 => ?_)
  refine fr_upd (by decide) (fun D103 => ?_)
  refine fr_upd (by decide) (fun D111 => ?_)
  exact fr_some
  exact fr_some
theorem g_X53_moves_j71_fr  {k44 : Int → Int → Int → Int → ga_D → ga_S} (hk44 : ∀ (x1 x2 x3 x4 : Int) (D : ga_D), ga_fr 5229 5250 D (k44 x1 x2 x3 x4 D)) (x1 x2 x3 x4 s0 : Int) (D : ga_D) : ga_fr 5229 5250 D (g_X53_moves_j71 x1 x2 x3 x4 s0 D k44) := by
  unfold g_X53_moves_j71
  refine fr_ite (fun c81 => ?_) (fun c81 => ?_)
  refine fr_ck (fun ha106 => ?_)
  refine fr_upd (by decide) (fun D106 => ?_)
  refine fr_let (fun v107 => ?_)
  exact hk44 _ _ _ _ _ 
  refine fr_ck (fun ha90 => ?_)
  refine fr_ite (fun c91 => ?_) (fun c91 => ?_)
  refine fr_ck (fun ha106 => ?_)
  refine fr_upd (by decide) (fun D106 => ?_)
  refine fr_let (fun v107 => ?_)
  exact hk44 _ _ _ _ _ 
  refine fr_ite (fun c97 => ?_) (fun c97 => ?_)
  refine fr_ck (fun ha106 => ?_)
  refine fr_upd (by decide) (fun D106 => ?_)
  refine fr_let (fun v107 => ?_)
  exact hk44 _ _ _ _ _ 
  refine fr_ck (fun ha106 => ?_)
  refine fr_upd (by decide) (fun D106 => ?_)
  refine fr_let (fun v107 => ?_)
  exact hk44 _ _ _ _ _ 
theorem g_X53_moves_l44_fr  {k113 : Int → ga_D → ga_S} (hk113 : ∀ (x3 : Int) (D : ga_D), ga_fr 5229 5250 D (k113 x3 D)) : ∀ (n : Nat) (x1 x2 x3 x4 : Int) (D : ga_D), ga_fr 5229 5250 D (g_X53_moves_l44 n x1 x2 x3 x4 D k113) := by
  intro n
  induction n with
  | zero => intro x1 x2 x3 x4 D; exact fr_none
  | succ n ih =>
    intro x1 x2 x3 x4 D
    show ga_fr 5229 5250 D (ga_bind (g_X53_statesOfLoads D) (fun r47 D47 => if r47 ≤ x4 then (k113 x3 D47) else (ga_bind (g_X53_digit x4 x1 D47) (fun r57 D57 => if r57 ≠ aw_w32 (x2 + 1) then (g_X53_moves_j71 x1 x2 x3 x4 0 D57 (fun x1 x2 x3 x4 D44 => g_X53_moves_l44 n x1 x2 x3 x4 D44 k113)) else (g_X53_moves_j71 x1 x2 x3 x4 1 D57 (fun x1 x2 x3 x4 D44 => g_X53_moves_l44 n x1 x2 x3 x4 D44 k113))))))
    refine fr_bind (g_X53_statesOfLoads_fr) (fun r47 D47 => ?_)
    refine fr_ite (fun c50 => ?_) (fun c50 => ?_)
    exact hk113 _ _ 
    refine fr_bind (g_X53_digit_fr) (fun r57 D57 => ?_)
    refine fr_ite (fun c63 => ?_) (fun c63 => ?_)
    refine g_X53_moves_j71_fr (fun x1 x2 x3 x4 D44 => ?_) _ _ _ _ _ _ 
    exact ih _ _ _ _ _ 
    refine g_X53_moves_j71_fr (fun x1 x2 x3 x4 D44 => ?_) _ _ _ _ _ _ 
    exact ih _ _ _ _ _ 
theorem g_X53_moves_j152_fr  {k127 : Int → Int → Int → ga_D → ga_S} (hk127 : ∀ (x3 x4 x5 : Int) (D : ga_D), ga_fr 5229 5250 D (k127 x3 x4 x5 D)) (x3 x4 x5 : Int) (D : ga_D) : ga_fr 5229 5250 D (g_X53_moves_j152 x3 x4 x5 D k127) := by
  unfold g_X53_moves_j152
  refine fr_bind (g_X53_leastBehind_fr) (fun r155 D155 => ?_)
  refine fr_ck (fun ha170 => ?_)
  refine fr_ite (fun c171 => ?_) (fun c171 => ?_)
  refine fr_let (fun v188 => ?_)
  exact hk127 _ _ _ _ 
  refine fr_ck (fun ha184 => ?_)
  refine fr_upd (by decide) (fun D184 => ?_)
  refine fr_let (fun v188 => ?_)
  exact hk127 _ _ _ _ 
theorem g_X53_moves_l127_fr  {k194 : Int → Int → ga_D → ga_S} (hk194 : ∀ (x3 x4 : Int) (D : ga_D), ga_fr 5229 5250 D (k194 x3 x4 D)) : ∀ (n : Nat) (x3 x4 x5 : Int) (D : ga_D), ga_fr 5229 5250 D (g_X53_moves_l127 n x3 x4 x5 D k194) := by
  intro n
  induction n with
  | zero => intro x3 x4 x5 D; exact fr_none
  | succ n ih =>
    intro x3 x4 x5 D
    show ga_fr 5229 5250 D (ga_bind (g_X53_statesOfLoads D) (fun r130 D130 => if r130 ≤ x5 then (k194 x3 x4 D130) else (ga_ck (0 ≤ x5 ∧ x5 < 15625) (if D130 5244 x5 ≠ 0 then (g_X53_moves_j152 x3 x4 x5 D130 (fun x3 x4 x5 D127 => g_X53_moves_l127 n x3 x4 x5 D127 k194)) else (if x5 ≠ x3 then (ga_let (aw_w32 (x5 + 1)) (fun v188 => g_X53_moves_l127 n x3 x4 v188 D130 k194)) else (g_X53_moves_j152 x3 x4 x5 D130 (fun x3 x4 x5 D127 => g_X53_moves_l127 n x3 x4 x5 D127 k194)))))))
    refine fr_bind (g_X53_statesOfLoads_fr) (fun r130 D130 => ?_)
    refine fr_ite (fun c133 => ?_) (fun c133 => ?_)
    exact hk194 _ _ _ 
    refine fr_ck (fun ha142 => ?_)
    refine fr_ite (fun c143 => ?_) (fun c143 => ?_)
    refine g_X53_moves_j152_fr (fun x3 x4 x5 D127 => ?_) _ _ _ _ 
    exact ih _ _ _ _ 
    refine fr_ite (fun c149 => ?_) (fun c149 => ?_)
    refine fr_let (fun v188 => ?_)
    exact ih _ _ _ _ 
    refine g_X53_moves_j152_fr (fun x3 x4 x5 D127 => ?_) _ _ _ _ 
    exact ih _ _ _ _ 
theorem g_X53_moves_l116_fr  {k197 : Int → ga_D → ga_S} (hk197 : ∀ (x3 : Int) (D : ga_D), ga_fr 5229 5250 D (k197 x3 D)) : ∀ (n : Nat) (x3 x4 : Int) (D : ga_D), ga_fr 5229 5250 D (g_X53_moves_l116 n x3 x4 D k197) := by
  intro n
  induction n with
  | zero => intro x3 x4 D; exact fr_none
  | succ n ih =>
    intro x3 x4 D
    show ga_fr 5229 5250 D (if x4 = 0 then (k197 x3 D) else (g_X53_moves_l127 aw_fu x3 0 0 D (fun x3 x4 D194 => g_X53_moves_l116 n x3 x4 D194 k197)))
    refine fr_ite (fun c118 => ?_) (fun c118 => ?_)
    exact hk197 _ _ 
    refine g_X53_moves_l127_fr (fun x3 x4 D194 => ?_) _ _ _ _ _ 
    exact ih _ _ _ 
theorem g_X53_moves_l218_fr  {k239 : ga_D → ga_S} (hk239 : ∀ (D : ga_D), ga_fr 5229 5250 D (k239 D)) : ∀ (n : Nat) (x5 : Int) (D : ga_D), ga_fr 5229 5250 D (g_X53_moves_l218 n x5 D k239) := by
  intro n
  induction n with
  | zero => intro x5 D; exact fr_none
  | succ n ih =>
    intro x5 D
    show ga_fr 5229 5250 D (ga_ck (0 ≤ x5 ∧ x5 < 15625) (if D 5245 x5 ≤ 0 then (k239 D) else (ga_bind (g_X53_stepFrom x5 D) (fun r231 D231 => g_X53_moves_l218 n r231 D231 k239))))
    refine fr_ck (fun ha224 => ?_)
    refine fr_ite (fun c225 => ?_) (fun c225 => ?_)
    exact hk239 _ 
    refine fr_bind (g_X53_stepFrom_fr) (fun r231 D231 => ?_)
    exact ih _ _ 
theorem g_X53_moves_fr {x1 x2 : Int} {D : ga_D} : ga_fr 5229 5250 D (g_X53_moves x1 x2 D) := by
  unfold g_X53_moves
  refine fr_bind (g_X53_isLoad_fr) (fun r2 D2 => ?_)
  refine fr_ite (fun c5 => ?_) (fun c5 => ?_)
  exact fr_some
  refine fr_bind (g_X53_isPlace_fr) (fun r10 D10 => ?_)
  refine fr_ite (fun c13 => ?_) (fun c13 => ?_)
  exact fr_some
  refine fr_ck (fun ha21 => ?_)
  refine fr_ite (fun c22 => ?_) (fun c22 => ?_)
  refine fr_upd (by decide) (fun D29 => ?_)
  refine fr_bind (g_X53_judgeAll_fr) (fun r33 D33 => ?_)
  refine fr_bind (g_X53_stateNow_fr) (fun r37 D37 => ?_)
  refine g_X53_moves_l44_fr (fun x3 D113 => ?_) _ _ _ _ _ _ 
  refine g_X53_moves_l116_fr (fun x3 D197 => ?_) _ _ _ _ 
  refine fr_ck (fun ha202 => ?_)
  refine fr_ite (fun c205 => ?_) (fun c205 => ?_)
  refine fr_upd (by decide) (fun D212 => ?_)
  refine g_X53_moves_l218_fr (fun D239 => ?_) _ _ _ 
  exact fr_some
  exact fr_some
  exact fr_some
theorem g_X53_step_fr {x1 x2 : Int} {D : ga_D} : ga_fr 5229 5250 D (g_X53_step x1 x2 D) := by
  unfold g_X53_step
  refine fr_ite (fun c1 => ?_) (fun c1 => ?_)
  exact fr_some
  refine fr_ite (fun c9 => ?_) (fun c9 => ?_)
  exact fr_some
  refine fr_ite (fun c13 => ?_) (fun c13 => ?_)
  exact fr_some
  refine fr_ite (fun c18 => ?_) (fun c18 => ?_)
  exact fr_some
  refine fr_ite (fun c22 => ?_) (fun c22 => ?_)
  refine fr_ck (fun ha39 => ?_)
  exact fr_some
  refine fr_ck (fun ha30 => ?_)
  exact fr_some
theorem g_X53_basin_fr {x1 x2 : Int} {D : ga_D} : ga_fr 5229 5250 D (g_X53_basin x1 x2 D) := by
  unfold g_X53_basin
  refine fr_bind (g_X53_isPlace_fr) (fun r2 D2 => ?_)
  refine fr_ite (fun c5 => ?_) (fun c5 => ?_)
  refine fr_ite (fun c15 => ?_) (fun c15 => ?_)
  refine fr_ite (fun c32 => ?_) (fun c32 => ?_)
  exact fr_some
  refine fr_ck (fun ha40 => ?_)
  exact fr_some
  refine fr_bind (g_X53_needed_fr) (fun r24 D24 => ?_)
  exact fr_some
  exact fr_some
theorem g_X53_arePair_fr {x1 x2 : Int} {D : ga_D} : ga_fr 5229 5250 D (g_X53_arePair x1 x2 D) := by
  unfold g_X53_arePair
  refine fr_bind (g_X53_isLoad_fr) (fun r2 D2 => ?_)
  refine fr_ite (fun c5 => ?_) (fun c5 => ?_)
  exact fr_some
  refine fr_bind (g_X53_isLoad_fr) (fun r10 D10 => ?_)
  refine fr_ite (fun c13 => ?_) (fun c13 => ?_)
  exact fr_some
  refine fr_ite (fun c18 => ?_) (fun c18 => ?_)
  exact fr_some
  refine fr_ck (fun ha26 => ?_)
  refine fr_ite (fun c27 => ?_) (fun c27 => ?_)
  exact fr_some
  refine fr_ck (fun ha35 => ?_)
  refine fr_ite (fun c36 => ?_) (fun c36 => ?_)
  exact fr_some
  exact fr_some
theorem g_X53_trial_j62_fr  (x1 x2 x3 s0 s1 s2 : Int) (D : ga_D) : ga_fr 5229 5250 D (g_X53_trial_j62 x1 x2 x3 s0 s1 s2 D) := by
  unfold g_X53_trial_j62
  refine fr_ck (fun ha62_0 => ?_)
  refine fr_ck (fun hg62_1 => ?_)
  refine fr_ck (fun ha62 => ?_)
  refine fr_upd (by omega) (fun D62 => ?_)
  refine fr_ck (fun ha83 => ?_)
  refine fr_ck (fun ha84 => ?_)
  refine fr_upd (by decide) (fun D84 => ?_)
  refine fr_ite (fun c90 => ?_) (fun c90 => ?_)
  exact fr_some
  exact fr_some
theorem g_X53_trial_j21_fr  (x1 x2 x3 s0 : Int) (D : ga_D) : ga_fr 5229 5250 D (g_X53_trial_j21 x1 x2 x3 s0 D) := by
  unfold g_X53_trial_j21
  refine fr_bind (g_X53_arePair_fr) (fun r26 D26 => ?_)
  refine fr_ite (fun c29 => ?_) (fun c29 => ?_)
  exact fr_some
  refine fr_ite (fun c34 => ?_) (fun c34 => ?_)
  refine fr_ite (fun c54 => ?_) (fun c54 => ?_)
  refine g_X53_trial_j62_fr _ _ _ _ _ _ _ 
  refine g_X53_trial_j62_fr _ _ _ _ _ _ _ 
  exact fr_some
theorem g_X53_trial_j20_fr  (x1 x2 x3 : Int) (D : ga_D) : ga_fr 5229 5250 D (g_X53_trial_j20 x1 x2 x3 D) := by
  unfold g_X53_trial_j20
  refine g_X53_trial_j21_fr _ _ _ _ _ 
theorem g_X53_trial_fr {x1 x2 x3 : Int} {D : ga_D} : ga_fr 5229 5250 D (g_X53_trial x1 x2 x3 D) := by
  unfold g_X53_trial
  refine fr_ite (fun c5 => ?_) (fun c5 => ?_)
  refine g_X53_trial_j20_fr _ _ _ _ 
  refine fr_ite (fun c13 => ?_) (fun c13 => ?_)
  refine g_X53_trial_j20_fr _ _ _ _ 
  refine g_X53_trial_j21_fr _ _ _ _ _ 
theorem g_X53_mix_l170_fr  {k235 : ga_D → ga_S} (hk235 : ∀ (D : ga_D), ga_fr 5229 5250 D (k235 D)) : ∀ (n : Nat) (x1 x2 x9 : Int) (D : ga_D), ga_fr 5229 5250 D (g_X53_mix_l170 n x1 x2 x9 D k235) := by
  intro n
  induction n with
  | zero => intro x1 x2 x9 D; exact fr_none
  | succ n ih =>
    intro x1 x2 x9 D
    show ga_fr 5229 5250 D (if 6 ≤ x9 then (k235 D) else (ga_ck (0 ≤ aw_w32 ((aw_w32 (6 * x1)) + x9) ∧ aw_w32 ((aw_w32 (6 * x1)) + x9) < 36) (ga_let (ga_set D 5241 (aw_w32 ((aw_w32 (6 * x1)) + x9)) 0) (fun D189 => ga_ck (0 ≤ aw_w32 ((aw_w32 (6 * x9)) + x1) ∧ aw_w32 ((aw_w32 (6 * x9)) + x1) < 36) (ga_let (ga_set D189 5241 (aw_w32 ((aw_w32 (6 * x9)) + x1)) 0) (fun D202 => ga_ck (0 ≤ aw_w32 ((aw_w32 (6 * x2)) + x9) ∧ aw_w32 ((aw_w32 (6 * x2)) + x9) < 36) (ga_let (ga_set D202 5241 (aw_w32 ((aw_w32 (6 * x2)) + x9)) 0) (fun D215 => ga_ck (0 ≤ aw_w32 ((aw_w32 (6 * x9)) + x2) ∧ aw_w32 ((aw_w32 (6 * x9)) + x2) < 36) (ga_let (ga_set D215 5241 (aw_w32 ((aw_w32 (6 * x9)) + x2)) 0) (fun D228 => ga_let (aw_w32 (x9 + 1)) (fun v229 => g_X53_mix_l170 n x1 x2 v229 D228 k235)))))))))))
    refine fr_ite (fun c174 => ?_) (fun c174 => ?_)
    exact hk235 _ 
    refine fr_ck (fun ha189 => ?_)
    refine fr_upd (by decide) (fun D189 => ?_)
    refine fr_ck (fun ha202 => ?_)
    refine fr_upd (by decide) (fun D202 => ?_)
    refine fr_ck (fun ha215 => ?_)
    refine fr_upd (by decide) (fun D215 => ?_)
    refine fr_ck (fun ha228 => ?_)
    refine fr_upd (by decide) (fun D228 => ?_)
    refine fr_let (fun v229 => ?_)
    exact ih _ _ _ _ 
theorem g_X53_mix_fr {x1 x2 : Int} {D : ga_D} : ga_fr 5229 5250 D (g_X53_mix x1 x2 D) := by
  unfold g_X53_mix
  refine fr_bind (g_X53_arePair_fr) (fun r3 D3 => ?_)
  refine fr_ite (fun c6 => ?_) (fun c6 => ?_)
  refine fr_ck (fun ha21 => ?_)
  refine fr_let (fun v22 => ?_)
  refine fr_ite (fun c25 => ?_) (fun c25 => ?_)
  refine fr_ck (fun ha49 => ?_)
  refine fr_ck (fun ha56 => ?_)
  refine fr_ck (fun ha58 => ?_)
  refine fr_ite (fun c59 => ?_) (fun c59 => ?_)
  refine fr_ck (fun ha69 => ?_)
  refine fr_let (fun v70 => ?_)
  refine fr_ck (fun ha77 => ?_)
  refine fr_let (fun v78 => ?_)
  refine fr_ck (fun ha85 => ?_)
  refine fr_let (fun v86 => ?_)
  refine fr_ck (fun ha94 => ?_)
  refine fr_ck (fun ha98 => ?_)
  refine fr_upd (by decide) (fun D98 => ?_)
  refine fr_ck (fun ha105 => ?_)
  refine fr_ck (fun ha109 => ?_)
  refine fr_upd (by decide) (fun D109 => ?_)
  refine fr_ck (fun ha116 => ?_)
  refine fr_upd (by decide) (fun D116 => ?_)
  refine fr_bind (g_X53_isGood_fr) (fun r122 D122 => ?_)
  refine fr_ite (fun c125 => ?_) (fun c125 => ?_)
  refine fr_ck (fun ha166 => ?_)
  refine fr_upd (by decide) (fun D166 => ?_)
  refine g_X53_mix_l170_fr (fun D235 => ?_) _ _ _ _ _ 
  exact fr_some
  refine fr_ck (fun ha134 => ?_)
  refine fr_ck (fun ha138 => ?_)
  refine fr_upd (by decide) (fun D138 => ?_)
  refine fr_ck (fun ha145 => ?_)
  refine fr_ck (fun ha149 => ?_)
  refine fr_upd (by decide) (fun D149 => ?_)
  refine fr_ck (fun ha157 => ?_)
  refine fr_upd (by decide) (fun D157 => ?_)
  exact fr_some
  exact fr_some
  refine fr_ite (fun c29 => ?_) (fun c29 => ?_)
  exact fr_some
  exact fr_some
  exact fr_some
theorem g_X53_key_fr {x1 x2 : Int} {D : ga_D} : ga_fr 5229 5250 D (g_X53_key x1 x2 D) := by
  unfold g_X53_key
  refine fr_bind (g_X53_isPlace_fr) (fun r2 D2 => ?_)
  refine fr_ite (fun c5 => ?_) (fun c5 => ?_)
  exact fr_some
  refine fr_ite (fun c9 => ?_) (fun c9 => ?_)
  exact fr_some
  refine fr_ite (fun c15 => ?_) (fun c15 => ?_)
  exact fr_some
  refine fr_ck (fun ha28 => ?_)
  refine fr_ite (fun c29 => ?_) (fun c29 => ?_)
  refine fr_ck (fun ha45 => ?_)
  refine fr_upd (by decide) (fun D45 => ?_)
  exact fr_some
  exact fr_some
theorem g_X53_open_fr {x1 x2 : Int} {D : ga_D} : ga_fr 5229 5250 D (g_X53_open x1 x2 D) := by
  unfold g_X53_open
  refine fr_bind (g_X53_isPlace_fr) (fun r2 D2 => ?_)
  refine fr_ite (fun c5 => ?_) (fun c5 => ?_)
  exact fr_some
  refine fr_ite (fun c9 => ?_) (fun c9 => ?_)
  exact fr_some
  refine fr_ite (fun c15 => ?_) (fun c15 => ?_)
  exact fr_some
  refine fr_ck (fun ha28 => ?_)
  refine fr_ite (fun c29 => ?_) (fun c29 => ?_)
  exact fr_some
  exact fr_some
theorem g_X53_first_j36_fr  {k4 : Int → Int → Int → ga_D → ga_S} (hk4 : ∀ (x1 x2 x3 : Int) (D : ga_D), ga_fr 5229 5250 D (k4 x1 x2 x3 D)) (x1 x2 x3 s0 : Int) (D : ga_D) : ga_fr 5229 5250 D (g_X53_first_j36 x1 x2 x3 s0 D k4) := by
  unfold g_X53_first_j36
  refine fr_ite (fun c40 => ?_) (fun c40 => ?_)
  refine fr_let (fun v68 => ?_)
  exact hk4 _ _ _ _ 
  refine fr_ite (fun c44 => ?_) (fun c44 => ?_)
  refine fr_let (fun v68 => ?_)
  exact hk4 _ _ _ _ 
  refine fr_ck (fun ha52 => ?_)
  refine fr_ck (fun ha58 => ?_)
  refine fr_ite (fun c59 => ?_) (fun c59 => ?_)
  refine fr_let (fun v68 => ?_)
  exact hk4 _ _ _ _ 
  refine fr_let (fun v68 => ?_)
  exact hk4 _ _ _ _ 
theorem g_X53_first_j35_fr  {k4 : Int → Int → Int → ga_D → ga_S} (hk4 : ∀ (x1 x2 x3 : Int) (D : ga_D), ga_fr 5229 5250 D (k4 x1 x2 x3 D)) (x1 x2 x3 : Int) (D : ga_D) : ga_fr 5229 5250 D (g_X53_first_j35 x1 x2 x3 D k4) := by
  unfold g_X53_first_j35
  refine g_X53_first_j36_fr (fun x1 x2 x3 D4 => ?_) _ _ _ _ _ 
  exact hk4 _ _ _ _ 
theorem g_X53_first_l4_fr  {k74 : Int → ga_D → ga_S} (hk74 : ∀ (x2 : Int) (D : ga_D), ga_fr 5229 5250 D (k74 x2 D)) : ∀ (n : Nat) (x1 x2 x3 : Int) (D : ga_D), ga_fr 5229 5250 D (g_X53_first_l4 n x1 x2 x3 D k74) := by
  intro n
  induction n with
  | zero => intro x1 x2 x3 D; exact fr_none
  | succ n ih =>
    intro x1 x2 x3 D
    show ga_fr 5229 5250 D (if D 5229 4 ≤ x3 then (k74 x2 D) else (ga_ck (0 ≤ x3 ∧ x3 < 6) (if D 5233 x3 ≠ x1 then (g_X53_first_j35 x1 x2 x3 D (fun x1 x2 x3 D4 => g_X53_first_l4 n x1 x2 x3 D4 k74)) else (ga_ck (0 ≤ x3 ∧ x3 < 6) (if D 5237 x3 < 0 then (g_X53_first_j35 x1 x2 x3 D (fun x1 x2 x3 D4 => g_X53_first_l4 n x1 x2 x3 D4 k74)) else (g_X53_first_j36 x1 x2 x3 1 D (fun x1 x2 x3 D4 => g_X53_first_l4 n x1 x2 x3 D4 k74)))))))
    refine fr_ite (fun c9 => ?_) (fun c9 => ?_)
    exact hk74 _ _ 
    refine fr_ck (fun ha17 => ?_)
    refine fr_ite (fun c19 => ?_) (fun c19 => ?_)
    refine g_X53_first_j35_fr (fun x1 x2 x3 D4 => ?_) _ _ _ _ 
    exact ih _ _ _ _ 
    refine fr_ck (fun ha27 => ?_)
    refine fr_ite (fun c28 => ?_) (fun c28 => ?_)
    refine g_X53_first_j35_fr (fun x1 x2 x3 D4 => ?_) _ _ _ _ 
    exact ih _ _ _ _ 
    refine g_X53_first_j36_fr (fun x1 x2 x3 D4 => ?_) _ _ _ _ _ 
    exact ih _ _ _ _ 
theorem g_X53_first_fr {x1 : Int} {D : ga_D} : ga_fr 5229 5250 D (g_X53_first x1 D) := by
  unfold g_X53_first
  refine g_X53_first_l4_fr (fun x2 D74 => ?_) _ _ _ _ _ 
  exact fr_some
theorem g_X53_drill_j119_fr  {k38 : Int → Int → Int → Int → Int → ga_D → ga_S} (hk38 : ∀ (x1 x2 x3 x4 x5 : Int) (D : ga_D), ga_fr 5229 5250 D (k38 x1 x2 x3 x4 x5 D)) (x1 x2 x3 x4 x5 x6 s0 : Int) (D : ga_D) : ga_fr 5229 5250 D (g_X53_drill_j119 x1 x2 x3 x4 x5 x6 s0 D k38) := by
  unfold g_X53_drill_j119
  refine fr_ite (fun c125 => ?_) (fun c125 => ?_)
  refine fr_let (fun v139 => ?_)
  refine fr_let (fun v141 => ?_)
  exact hk38 _ _ _ _ _ _ 
  refine fr_ite (fun c130 => ?_) (fun c130 => ?_)
  refine fr_let (fun v139 => ?_)
  refine fr_let (fun v141 => ?_)
  exact hk38 _ _ _ _ _ _ 
  refine fr_let (fun v139 => ?_)
  refine fr_let (fun v141 => ?_)
  exact hk38 _ _ _ _ _ _ 
theorem g_X53_drill_j118_fr  {k38 : Int → Int → Int → Int → Int → ga_D → ga_S} (hk38 : ∀ (x1 x2 x3 x4 x5 : Int) (D : ga_D), ga_fr 5229 5250 D (k38 x1 x2 x3 x4 x5 D)) (x1 x2 x3 x4 x5 x6 : Int) (D : ga_D) : ga_fr 5229 5250 D (g_X53_drill_j118 x1 x2 x3 x4 x5 x6 D k38) := by
  unfold g_X53_drill_j118
  refine g_X53_drill_j119_fr (fun x1 x2 x3 x4 x5 D38 => ?_) _ _ _ _ _ _ _ _ 
  exact hk38 _ _ _ _ _ _ 
theorem g_X53_drill_j114_fr  {k38 : Int → Int → Int → Int → Int → ga_D → ga_S} (hk38 : ∀ (x1 x2 x3 x4 x5 : Int) (D : ga_D), ga_fr 5229 5250 D (k38 x1 x2 x3 x4 x5 D)) (x1 x2 x3 x4 x5 x6 : Int) (D : ga_D) : ga_fr 5229 5250 D (g_X53_drill_j114 x1 x2 x3 x4 x5 x6 D k38) := by
  unfold g_X53_drill_j114
  refine g_X53_drill_j119_fr (fun x1 x2 x3 x4 x5 D38 => ?_) _ _ _ _ _ _ _ _ 
  exact hk38 _ _ _ _ _ _ 
theorem g_X53_drill_j63_fr  {k38 : Int → Int → Int → Int → Int → ga_D → ga_S} (hk38 : ∀ (x1 x2 x3 x4 x5 : Int) (D : ga_D), ga_fr 5229 5250 D (k38 x1 x2 x3 x4 x5 D)) (x1 x2 x3 x4 x5 s0 : Int) (D : ga_D) : ga_fr 5229 5250 D (g_X53_drill_j63 x1 x2 x3 x4 x5 s0 D k38) := by
  unfold g_X53_drill_j63
  refine fr_ite (fun c67 => ?_) (fun c67 => ?_)
  refine g_X53_drill_j118_fr (fun x1 x2 x3 x4 x5 D38 => ?_) _ _ _ _ _ _ _ 
  exact hk38 _ _ _ _ _ _ 
  refine fr_ite (fun c73 => ?_) (fun c73 => ?_)
  refine g_X53_drill_j118_fr (fun x1 x2 x3 x4 x5 D38 => ?_) _ _ _ _ _ _ _ 
  exact hk38 _ _ _ _ _ _ 
  refine fr_bind (g_X53_square_fr) (fun r80 D80 => ?_)
  refine fr_bind (g_X53_square_fr) (fun r86 D86 => ?_)
  refine fr_ite (fun c89 => ?_) (fun c89 => ?_)
  refine g_X53_drill_j114_fr (fun x1 x2 x3 x4 x5 D38 => ?_) _ _ _ _ _ _ _ 
  exact hk38 _ _ _ _ _ _ 
  refine fr_bind (g_X53_square_fr) (fun r96 D96 => ?_)
  refine fr_bind (g_X53_square_fr) (fun r102 D102 => ?_)
  refine fr_ite (fun c105 => ?_) (fun c105 => ?_)
  refine g_X53_drill_j118_fr (fun x1 x2 x3 x4 x5 D38 => ?_) _ _ _ _ _ _ _ 
  exact hk38 _ _ _ _ _ _ 
  refine fr_ite (fun c111 => ?_) (fun c111 => ?_)
  refine g_X53_drill_j118_fr (fun x1 x2 x3 x4 x5 D38 => ?_) _ _ _ _ _ _ _ 
  exact hk38 _ _ _ _ _ _ 
  refine g_X53_drill_j114_fr (fun x1 x2 x3 x4 x5 D38 => ?_) _ _ _ _ _ _ _ 
  exact hk38 _ _ _ _ _ _ 
theorem g_X53_drill_j62_fr  {k38 : Int → Int → Int → Int → Int → ga_D → ga_S} (hk38 : ∀ (x1 x2 x3 x4 x5 : Int) (D : ga_D), ga_fr 5229 5250 D (k38 x1 x2 x3 x4 x5 D)) (x1 x2 x3 x4 x5 : Int) (D : ga_D) : ga_fr 5229 5250 D (g_X53_drill_j62 x1 x2 x3 x4 x5 D k38) := by
  unfold g_X53_drill_j62
  refine g_X53_drill_j63_fr (fun x1 x2 x3 x4 x5 D38 => ?_) _ _ _ _ _ _ _ 
  exact hk38 _ _ _ _ _ _ 
theorem g_X53_drill_l38_fr  {k147 : Int → Int → Int → Int → ga_D → ga_S} (hk147 : ∀ (x1 x2 x3 x4 : Int) (D : ga_D), ga_fr 5229 5250 D (k147 x1 x2 x3 x4 D)) : ∀ (n : Nat) (x1 x2 x3 x4 x5 : Int) (D : ga_D), ga_fr 5229 5250 D (g_X53_drill_l38 n x1 x2 x3 x4 x5 D k147) := by
  intro n
  induction n with
  | zero => intro x1 x2 x3 x4 x5 D; exact fr_none
  | succ n ih =>
    intro x1 x2 x3 x4 x5 D
    show ga_fr 5229 5250 D (if D 5229 0 ≤ x5 then (k147 x1 x2 x3 x4 D) else (if x5 ≠ x1 then (g_X53_drill_j62 x1 x2 x3 x4 x5 D (fun x1 x2 x3 x4 x5 D38 => g_X53_drill_l38 n x1 x2 x3 x4 x5 D38 k147)) else (if x3 = x1 then (g_X53_drill_j62 x1 x2 x3 x4 x5 D (fun x1 x2 x3 x4 x5 D38 => g_X53_drill_l38 n x1 x2 x3 x4 x5 D38 k147)) else (g_X53_drill_j63 x1 x2 x3 x4 x5 1 D (fun x1 x2 x3 x4 x5 D38 => g_X53_drill_l38 n x1 x2 x3 x4 x5 D38 k147)))))
    refine fr_ite (fun c44 => ?_) (fun c44 => ?_)
    exact hk147 _ _ _ _ _ 
    refine fr_ite (fun c50 => ?_) (fun c50 => ?_)
    refine g_X53_drill_j62_fr (fun x1 x2 x3 x4 x5 D38 => ?_) _ _ _ _ _ _ 
    exact ih _ _ _ _ _ _ 
    refine fr_ite (fun c55 => ?_) (fun c55 => ?_)
    refine g_X53_drill_j62_fr (fun x1 x2 x3 x4 x5 D38 => ?_) _ _ _ _ _ _ 
    exact ih _ _ _ _ _ _ 
    refine g_X53_drill_j63_fr (fun x1 x2 x3 x4 x5 D38 => ?_) _ _ _ _ _ _ _ 
    exact ih _ _ _ _ _ _ 
theorem g_X53_drill_l24_fr  {k153 : Int → ga_D → ga_S} {k161 : ga_D → ga_S} (hk153 : ∀ (x3 : Int) (D : ga_D), ga_fr 5229 5250 D (k153 x3 D)) (hk161 : ∀ (D : ga_D), ga_fr 5229 5250 D (k161 D)) : ∀ (n : Nat) (x1 x2 x3 : Int) (D : ga_D), ga_fr 5229 5250 D (g_X53_drill_l24 n x1 x2 x3 D k153 k161) := by
  intro n
  induction n with
  | zero => intro x1 x2 x3 D; exact fr_none
  | succ n ih =>
    intro x1 x2 x3 D
    show ga_fr 5229 5250 D (if D 5229 0 ≤ x3 then (k161 D) else (g_X53_drill_l38 aw_fu x1 x2 x3 0 0 D (fun x1 x2 x3 x4 D147 => if x4 ≠ x2 then (ga_let (aw_w32 (x3 + 1)) (fun v155 => g_X53_drill_l24 n x1 x2 v155 D147 k153 k161)) else (k153 x3 D147))))
    refine fr_ite (fun c29 => ?_) (fun c29 => ?_)
    exact hk161 _ 
    refine g_X53_drill_l38_fr (fun x1 x2 x3 x4 D147 => ?_) _ _ _ _ _ _ _ 
    refine fr_ite (fun c150 => ?_) (fun c150 => ?_)
    refine fr_let (fun v155 => ?_)
    exact ih _ _ _ _ 
    exact hk153 _ _ 
theorem g_X53_drill_fr {x1 x2 : Int} {D : ga_D} : ga_fr 5229 5250 D (g_X53_drill x1 x2 D) := by
  unfold g_X53_drill
  refine fr_bind (g_X53_isPlace_fr) (fun r2 D2 => ?_)
  refine fr_ite (fun c5 => ?_) (fun c5 => ?_)
  exact fr_some
  refine fr_ite (fun c9 => ?_) (fun c9 => ?_)
  exact fr_some
  refine fr_ite (fun c17 => ?_) (fun c17 => ?_)
  refine g_X53_drill_l24_fr (fun x3 D153 => ?_) (fun D161 => ?_) _ _ _ _ _ 
  exact fr_some
  exact fr_some
  exact fr_some
theorem g_X53_inspect_fr {x1 x2 : Int} {D : ga_D} : ga_fr 5229 5250 D (g_X53_inspect x1 x2 D) := by
  unfold g_X53_inspect
  refine fr_bind (g_X53_isPlace_fr) (fun r2 D2 => ?_)
  refine fr_ite (fun c5 => ?_) (fun c5 => ?_)
  exact fr_some
  refine fr_bind (g_X53_isIn_fr) (fun r13 D13 => ?_)
  refine fr_ite (fun c16 => ?_) (fun c16 => ?_)
  exact fr_some
  refine fr_ck (fun ha25 => ?_)
  refine fr_ite (fun c28 => ?_) (fun c28 => ?_)
  refine fr_ck (fun ha38 => ?_)
  refine fr_let (fun v39 => ?_)
  refine fr_ck (fun ha48 => ?_)
  refine fr_upd (by decide) (fun D48 => ?_)
  refine fr_ite (fun c51 => ?_) (fun c51 => ?_)
  exact fr_some
  exact fr_some
  exact fr_some
