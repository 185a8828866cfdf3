theorem g_X56_lot_fr {x1 : Int} {D : ga_D} : ga_fr 5286 5304 D (g_X56_lot x1 D) := by
  unfold g_X56_lot
  refine fr_ite (fun c6 => ?_) (fun c6 => ?_)
  exact fr_some
  refine fr_ite (fun c12 => ?_) (fun c12 => ?_)
  exact fr_some
  refine fr_ite (fun c20 => ?_) (fun c20 => ?_)
  refine fr_ck (fun ha34 => ?_)
  refine fr_upd (by decide) (fun D34 => ?_)
  refine fr_upd (by decide) (fun D42 => ?_)
  exact fr_some
  exact fr_some
theorem g_X56_isLot_fr {x1 : Int} {D : ga_D} : ga_fr 5286 5304 D (g_X56_isLot x1 D) := by
  unfold g_X56_isLot
  refine fr_ite (fun c1 => ?_) (fun c1 => ?_)
  exact fr_some
  refine fr_ite (fun c9 => ?_) (fun c9 => ?_)
  exact fr_some
  exact fr_some
theorem g_X56_piece_fr {x1 x2 x3 : Int} {D : ga_D} : ga_fr 5286 5304 D (g_X56_piece x1 x2 x3 D) := by
  unfold g_X56_piece
  refine fr_bind (g_X56_isLot_fr) (fun r2 D2 => ?_)
  refine fr_ite (fun c5 => ?_) (fun c5 => ?_)
  exact fr_some
  refine fr_ite (fun c9 => ?_) (fun c9 => ?_)
  exact fr_some
  refine fr_ite (fun c14 => ?_) (fun c14 => ?_)
  exact fr_some
  refine fr_ite (fun c20 => ?_) (fun c20 => ?_)
  exact fr_some
  refine fr_ite (fun c28 => ?_) (fun c28 => ?_)
  exact fr_some
  refine fr_ck (fun ha36 => ?_)
  refine fr_ite (fun c39 => ?_) (fun c39 => ?_)
  refine fr_ck (fun ha57 => ?_)
  refine fr_ck (fun ha60 => ?_)
  refine fr_upd (by decide) (fun D60 => ?_)
  refine fr_ck (fun ha74 => ?_)
  refine fr_ck (fun ha77 => ?_)
  refine fr_upd (by decide) (fun D77 => ?_)
  refine fr_ck (fun ha84 => ?_)
  refine fr_ck (fun ha87 => ?_)
  refine fr_upd (by decide) (fun D87 => ?_)
  exact fr_some
  exact fr_some
theorem g_X56_isJudged_fr {x1 : Int} {D : ga_D} : ga_fr 5286 5304 D (g_X56_isJudged x1 D) := by
  unfold g_X56_isJudged
  refine fr_ck (fun ha5 => ?_)
  refine fr_ite (fun c6 => ?_) (fun c6 => ?_)
  exact fr_some
  exact fr_some
theorem g_X56_sumOf_j50_fr  {k6 : Int → Int → Int → Int → Int → ga_D → ga_S} (hk6 : ∀ (x1 x2 x3 x4 x6 : Int) (D : ga_D), ga_fr 5286 5304 D (k6 x1 x2 x3 x4 x6 D)) (x1 x2 x3 x6 x7 s0 : Int) (D : ga_D) : ga_fr 5286 5304 D (g_X56_sumOf_j50 x1 x2 x3 x6 x7 s0 D k6) := by
  unfold g_X56_sumOf_j50
  refine fr_ck (fun ha56 => ?_)
  refine fr_let (fun v62 => ?_)
  refine fr_let (fun v64 => ?_)
  exact hk6 _ _ _ _ _ _ 
theorem g_X56_sumOf_l6_fr  {k70 : Int → ga_D → ga_S} (hk70 : ∀ (x4 : Int) (D : ga_D), ga_fr 5286 5304 D (k70 x4 D)) : ∀ (n : Nat) (x1 x2 x3 x4 x6 : Int) (D : ga_D), ga_fr 5286 5304 D (g_X56_sumOf_l6 n x1 x2 x3 x4 x6 D k70) := by
  intro n
  induction n with
  | zero => intro x1 x2 x3 x4 x6 D; exact fr_none
  | succ n ih =>
    intro x1 x2 x3 x4 x6 D
    show ga_fr 5286 5304 D (ga_ck (0 ≤ x1 ∧ x1 < 6) (if D 5291 x1 ≤ x6 then (k70 x4 D) else (ga_let (aw_w32 ((aw_w32 (30 * x1)) + x6)) (fun v24 => if x6 = x3 then (ga_let (aw_w64 (x4 + 0)) (fun v62 => ga_let (aw_w32 (x6 + 1)) (fun v64 => g_X56_sumOf_l6 n x1 x2 x3 v62 v64 D k70))) else (if x2 = (-1) then (g_X56_sumOf_j50 x1 x2 x3 x6 v24 x4 D (fun x1 x2 x3 x4 x6 D6 => g_X56_sumOf_l6 n x1 x2 x3 x4 x6 D6 k70)) else (ga_ck (0 ≤ v24 ∧ v24 < 180) (if D 5292 v24 ≠ x2 then (ga_let (aw_w64 (x4 + 0)) (fun v62 => ga_let (aw_w32 (x6 + 1)) (fun v64 => g_X56_sumOf_l6 n x1 x2 x3 v62 v64 D k70))) else (g_X56_sumOf_j50 x1 x2 x3 x6 v24 x4 D (fun x1 x2 x3 x4 x6 D6 => g_X56_sumOf_l6 n x1 x2 x3 x4 x6 D6 k70)))))))))
    refine fr_ck (fun ha13 => ?_)
    refine fr_ite (fun c14 => ?_) (fun c14 => ?_)
    exact hk70 _ _ 
    refine fr_let (fun v24 => ?_)
    refine fr_ite (fun c31 => ?_) (fun c31 => ?_)
    refine fr_let (fun v62 => ?_)
    refine fr_let (fun v64 => ?_)
    exact ih _ _ _ _ _ _ 
    refine fr_ite (fun c36 => ?_) (fun c36 => ?_)
    refine g_X56_sumOf_j50_fr (fun x1 x2 x3 x4 x6 D6 => ?_) _ _ _ _ _ _ _ 
    exact ih _ _ _ _ _ _ 
    refine fr_ck (fun ha45 => ?_)
    refine fr_ite (fun c47 => ?_) (fun c47 => ?_)
    refine fr_let (fun v62 => ?_)
    refine fr_let (fun v64 => ?_)
    exact ih _ _ _ _ _ _ 
    refine g_X56_sumOf_j50_fr (fun x1 x2 x3 x4 x6 D6 => ?_) _ _ _ _ _ _ _ 
    exact ih _ _ _ _ _ _ 
theorem g_X56_sumOf_fr {x1 x2 x3 : Int} {D : ga_D} : ga_fr 5286 5304 D (g_X56_sumOf x1 x2 x3 D) := by
  unfold g_X56_sumOf
  refine g_X56_sumOf_l6_fr (fun x4 D70 => ?_) _ _ _ _ _ _ _ 
  exact fr_some
theorem g_X56_pureAbove_fr {x1 : Int} {D : ga_D} : ga_fr 5286 5304 D (g_X56_pureAbove x1 D) := by
  unfold g_X56_pureAbove
  refine fr_bind (g_X56_isJudged_fr) (fun r2 D2 => ?_)
  refine fr_ite (fun c5 => ?_) (fun c5 => ?_)
  refine fr_bind (g_X56_sumOf_fr) (fun r22 D22 => ?_)
  exact fr_some
  refine fr_ck (fun ha13 => ?_)
  exact fr_some
theorem g_X56_pureBelow_fr {x1 : Int} {D : ga_D} : ga_fr 5286 5304 D (g_X56_pureBelow x1 D) := by
  unfold g_X56_pureBelow
  refine fr_bind (g_X56_isJudged_fr) (fun r2 D2 => ?_)
  refine fr_ite (fun c5 => ?_) (fun c5 => ?_)
  refine fr_bind (g_X56_sumOf_fr) (fun r22 D22 => ?_)
  exact fr_some
  refine fr_ck (fun ha13 => ?_)
  exact fr_some
theorem g_X56_stepOf_l6_fr  {k54 : Int → ga_D → ga_S} (hk54 : ∀ (x5 : Int) (D : ga_D), ga_fr 5286 5304 D (k54 x5 D)) : ∀ (n : Nat) (x1 x3 x5 x6 : Int) (D : ga_D), ga_fr 5286 5304 D (g_X56_stepOf_l6 n x1 x3 x5 x6 D k54) := by
  intro n
  induction n with
  | zero => intro x1 x3 x5 x6 D; exact fr_none
  | succ n ih =>
    intro x1 x3 x5 x6 D
    show ga_fr 5286 5304 D (if D 5286 16 ≤ x6 then (k54 x5 D) else (ga_ck (0 ≤ x6 ∧ x6 < 12) (ga_ck (0 ≤ x6 ∧ x6 < 12) (if aw_w64 (x1 * (D 5300 x6)) < aw_w64 ((D 5299 x6) * x3) then (ga_let (aw_w32 (x6 + 1)) (fun v48 => g_X56_stepOf_l6 n x1 x3 x5 v48 D k54)) else (ga_let (aw_w32 (x6 + 1)) (fun v48 => g_X56_stepOf_l6 n x1 x3 x6 v48 D k54))))))
    refine fr_ite (fun c12 => ?_) (fun c12 => ?_)
    exact hk54 _ _ 
    refine fr_ck (fun ha21 => ?_)
    refine fr_ck (fun ha32 => ?_)
    refine fr_ite (fun c36 => ?_) (fun c36 => ?_)
    refine fr_let (fun v48 => ?_)
    exact ih _ _ _ _ _ 
    refine fr_let (fun v48 => ?_)
    exact ih _ _ _ _ _ 
theorem g_X56_stepOf_fr {x1 x3 : Int} {D : ga_D} : ga_fr 5286 5304 D (g_X56_stepOf x1 x3 D) := by
  unfold g_X56_stepOf
  refine g_X56_stepOf_l6_fr (fun x5 D54 => ?_) _ _ _ _ _ _ 
  exact fr_some
theorem g_X56_price_fr {x1 : Int} {D : ga_D} : ga_fr 5286 5304 D (g_X56_price x1 D) := by
  unfold g_X56_price
  refine fr_bind (g_X56_isLot_fr) (fun r2 D2 => ?_)
  refine fr_ite (fun c5 => ?_) (fun c5 => ?_)
  exact fr_some
  refine fr_ck (fun ha13 => ?_)
  refine fr_ite (fun c14 => ?_) (fun c14 => ?_)
  refine fr_bind (g_X56_pureAbove_fr) (fun r24 D24 => ?_)
  refine fr_bind (g_X56_pureBelow_fr) (fun r29 D29 => ?_)
  refine fr_bind (g_X56_stepOf_fr) (fun r32 D32 => ?_)
  refine fr_ite (fun c37 => ?_) (fun c37 => ?_)
  refine fr_ck (fun ha49 => ?_)
  refine fr_ck (fun ha56 => ?_)
  exact fr_some
  exact fr_some
  exact fr_some
theorem g_X56_common_l6_fr  {k31 : Int → ga_D → ga_S} (hk31 : ∀ (x6 : Int) (D : ga_D), ga_fr 5286 5304 D (k31 x6 D)) : ∀ (n : Nat) (x4 x6 : Int) (D : ga_D), ga_fr 5286 5304 D (g_X56_common_l6 n x4 x6 D k31) := by
  intro n
  induction n with
  | zero => intro x4 x6 D; exact fr_none
  | succ n ih =>
    intro x4 x6 D
    show ga_fr 5286 5304 D (if x4 = 0 then (k31 x6 D) else (ga_ck (x4 ≠ 0) (ga_let (Int.tmod x6 x4) (fun v18 => g_X56_common_l6 n v18 x4 D k31))))
    refine fr_ite (fun c10 => ?_) (fun c10 => ?_)
    exact hk31 _ _ 
    refine fr_ck (fun hz17 => ?_)
    refine fr_let (fun v18 => ?_)
    exact ih _ _ _ 
theorem g_X56_common_fr {x0 x2 : Int} {D : ga_D} : ga_fr 5286 5304 D (g_X56_common x0 x2 D) := by
  unfold g_X56_common
  refine g_X56_common_l6_fr (fun x6 D31 => ?_) _ _ _ _ 
  exact fr_some
theorem g_X56_part_fr {x0 x2 x4 : Int} {D : ga_D} : ga_fr 5286 5304 D (g_X56_part x0 x2 x4 D) := by
  unfold g_X56_part
  refine fr_bind (g_X56_common_fr) (fun r2 D2 => ?_)
  refine fr_ite (fun c9 => ?_) (fun c9 => ?_)
  refine fr_ite (fun c22 => ?_) (fun c22 => ?_)
  exact fr_some
  refine fr_ck (fun hz28 => ?_)
  exact fr_some
  refine fr_ck (fun hz15 => ?_)
  exact fr_some
theorem g_X56_share_fr {x1 x2 x3 : Int} {D : ga_D} : ga_fr 5286 5304 D (g_X56_share x1 x2 x3 D) := by
  unfold g_X56_share
  refine fr_bind (g_X56_isLot_fr) (fun r2 D2 => ?_)
  refine fr_ite (fun c5 => ?_) (fun c5 => ?_)
  exact fr_some
  refine fr_ite (fun c9 => ?_) (fun c9 => ?_)
  exact fr_some
  refine fr_ite (fun c14 => ?_) (fun c14 => ?_)
  exact fr_some
  refine fr_ck (fun ha22 => ?_)
  refine fr_ite (fun c23 => ?_) (fun c23 => ?_)
  refine fr_bind (g_X56_sumOf_fr) (fun r34 D34 => ?_)
  refine fr_bind (g_X56_sumOf_fr) (fun r41 D41 => ?_)
  refine fr_bind (g_X56_part_fr) (fun r45 D45 => ?_)
  exact fr_some
  exact fr_some
theorem g_X56_plan_fr {x1 x2 : Int} {D : ga_D} : ga_fr 5286 5304 D (g_X56_plan x1 x2 D) := by
  unfold g_X56_plan
  refine fr_ite (fun c6 => ?_) (fun c6 => ?_)
  exact fr_some
  refine fr_ite (fun c11 => ?_) (fun c11 => ?_)
  exact fr_some
  refine fr_ite (fun c17 => ?_) (fun c17 => ?_)
  exact fr_some
  refine fr_ite (fun c21 => ?_) (fun c21 => ?_)
  exact fr_some
  refine fr_ite (fun c26 => ?_) (fun c26 => ?_)
  refine fr_ck (fun ha40 => ?_)
  refine fr_upd (by decide) (fun D40 => ?_)
  refine fr_ck (fun ha50 => ?_)
  refine fr_upd (by decide) (fun D50 => ?_)
  refine fr_upd (by decide) (fun D58 => ?_)
  exact fr_some
  exact fr_some
theorem g_X56_isShare_fr {x0 x2 x4 : Int} {D : ga_D} : ga_fr 5286 5304 D (g_X56_isShare x0 x2 x4 D) := by
  unfold g_X56_isShare
  refine fr_ite (fun c3 => ?_) (fun c3 => ?_)
  exact fr_some
  refine fr_ite (fun c10 => ?_) (fun c10 => ?_)
  exact fr_some
  refine fr_ite (fun c16 => ?_) (fun c16 => ?_)
  exact fr_some
  refine fr_ite (fun c22 => ?_) (fun c22 => ?_)
  exact fr_some
  exact fr_some
theorem g_X56_passing_l3_fr  {k33 : Int → Int → Int → Int → ga_D → ga_S} (hk33 : ∀ (x1 x2 x3 x4 : Int) (D : ga_D), ga_fr 5286 5304 D (k33 x1 x2 x3 x4 D)) : ∀ (n : Nat) (x1 x2 x3 x4 x5 : Int) (D : ga_D), ga_fr 5286 5304 D (g_X56_passing_l3 n x1 x2 x3 x4 x5 D k33) := by
  intro n
  induction n with
  | zero => intro x1 x2 x3 x4 x5 D; exact fr_none
  | succ n ih =>
    intro x1 x2 x3 x4 x5 D
    show ga_fr 5286 5304 D (if 7 < x5 then (k33 x1 x2 x3 x4 D) else (if x5 ≠ 0 then (ga_ck (0 ≤ x5 ∧ x5 < 8) (ga_let (ga_set D 5302 x5 0) (fun D26 => ga_let (aw_w32 (x5 + 1)) (fun v27 => g_X56_passing_l3 n x1 x2 x3 x4 v27 D26 k33)))) else (ga_ck (0 ≤ x5 ∧ x5 < 8) (ga_let (ga_set D 5302 x5 1) (fun D26 => ga_let (aw_w32 (x5 + 1)) (fun v27 => g_X56_passing_l3 n x1 x2 x3 x4 v27 D26 k33))))))
    refine fr_ite (fun c7 => ?_) (fun c7 => ?_)
    exact hk33 _ _ _ _ _ 
    refine fr_ite (fun c18 => ?_) (fun c18 => ?_)
    refine fr_ck (fun ha26 => ?_)
    refine fr_upd (by decide) (fun D26 => ?_)
    refine fr_let (fun v27 => ?_)
    exact ih _ _ _ _ _ _ 
    refine fr_ck (fun ha26 => ?_)
    refine fr_upd (by decide) (fun D26 => ?_)
    refine fr_let (fun v27 => ?_)
    exact ih _ _ _ _ _ _ 
theorem g_X56_passing_l45_fr  {k98 : Int → Int → Int → Int → Int → ga_D → ga_S} (hk98 : ∀ (x1 x2 x3 x4 x5 : Int) (D : ga_D), ga_fr 5286 5304 D (k98 x1 x2 x3 x4 x5 D)) : ∀ (n : Nat) (x1 x2 x3 x4 x5 x6 : Int) (D : ga_D), ga_fr 5286 5304 D (g_X56_passing_l45 n x1 x2 x3 x4 x5 x6 D k98) := by
  intro n
  induction n with
  | zero => intro x1 x2 x3 x4 x5 x6 D; exact fr_none
  | succ n ih =>
    intro x1 x2 x3 x4 x5 x6 D
    show ga_fr 5286 5304 D (if x6 < 0 then (k98 x1 x2 x3 x4 x5 D) else (ga_ck (0 ≤ x6 ∧ x6 < 8) (if x6 ≤ 0 then (ga_ck (0 ≤ x6 ∧ x6 < 8) (ga_let (ga_set D 5302 x6 (aw_w64 ((aw_w64 ((D 5302 x6) * (aw_w32 (x4 - x3)))) + 0))) (fun D91 => ga_let (aw_w32 (x6 + (-1))) (fun v92 => g_X56_passing_l45 n x1 x2 x3 x4 x5 v92 D91 k98)))) else (ga_ck (0 ≤ aw_w32 (x6 - 1) ∧ aw_w32 (x6 - 1) < 8) (ga_ck (0 ≤ x6 ∧ x6 < 8) (ga_let (ga_set D 5302 x6 (aw_w64 ((aw_w64 ((D 5302 x6) * (aw_w32 (x4 - x3)))) + (aw_w64 ((D 5302 (aw_w32 (x6 - 1))) * x3))))) (fun D91 => ga_let (aw_w32 (x6 + (-1))) (fun v92 => g_X56_passing_l45 n x1 x2 x3 x4 x5 v92 D91 k98))))))))
    refine fr_ite (fun c47 => ?_) (fun c47 => ?_)
    exact hk98 _ _ _ _ _ _ 
    refine fr_ck (fun ha62 => ?_)
    refine fr_ite (fun c71 => ?_) (fun c71 => ?_)
    refine fr_ck (fun ha91 => ?_)
    refine fr_upd (by decide) (fun D91 => ?_)
    refine fr_let (fun v92 => ?_)
    exact ih _ _ _ _ _ _ _ 
    refine fr_ck (fun ha82 => ?_)
    refine fr_ck (fun ha91 => ?_)
    refine fr_upd (by decide) (fun D91 => ?_)
    refine fr_let (fun v92 => ?_)
    exact ih _ _ _ _ _ _ _ 
theorem g_X56_passing_l36_fr  {k104 : Int → ga_D → ga_S} (hk104 : ∀ (x2 : Int) (D : ga_D), ga_fr 5286 5304 D (k104 x2 D)) : ∀ (n : Nat) (x1 x2 x3 x4 x5 : Int) (D : ga_D), ga_fr 5286 5304 D (g_X56_passing_l36 n x1 x2 x3 x4 x5 D k104) := by
  intro n
  induction n with
  | zero => intro x1 x2 x3 x4 x5 D; exact fr_none
  | succ n ih =>
    intro x1 x2 x3 x4 x5 D
    show ga_fr 5286 5304 D (if x1 ≤ x5 then (k104 x2 D) else (g_X56_passing_l45 aw_fu x1 x2 x3 x4 x5 x1 D (fun x1 x2 x3 x4 x5 D98 => ga_let (aw_w32 (x5 + 1)) (fun v98 => g_X56_passing_l36 n x1 x2 x3 x4 v98 D98 k104))))
    refine fr_ite (fun c39 => ?_) (fun c39 => ?_)
    exact hk104 _ _ 
    refine g_X56_passing_l45_fr (fun x1 x2 x3 x4 x5 D98 => ?_) _ _ _ _ _ _ _ _ 
    refine fr_let (fun v98 => ?_)
    exact ih _ _ _ _ _ _ 
theorem g_X56_passing_l110_fr  {k134 : Int → ga_D → ga_S} (hk134 : ∀ (x5 : Int) (D : ga_D), ga_fr 5286 5304 D (k134 x5 D)) : ∀ (n : Nat) (x2 x5 x7 : Int) (D : ga_D), ga_fr 5286 5304 D (g_X56_passing_l110 n x2 x5 x7 D k134) := by
  intro n
  induction n with
  | zero => intro x2 x5 x7 D; exact fr_none
  | succ n ih =>
    intro x2 x5 x7 D
    show ga_fr 5286 5304 D (if x2 < x7 then (k134 x5 D) else (ga_ck (0 ≤ x7 ∧ x7 < 8) (ga_let (aw_w64 (x5 + (D 5302 x7))) (fun v126 => ga_let (aw_w32 (x7 + 1)) (fun v128 => g_X56_passing_l110 n x2 v126 v128 D k134)))))
    refine fr_ite (fun c113 => ?_) (fun c113 => ?_)
    exact hk134 _ _ 
    refine fr_ck (fun ha124 => ?_)
    refine fr_let (fun v126 => ?_)
    refine fr_let (fun v128 => ?_)
    exact ih _ _ _ _ 
theorem g_X56_passing_fr {x1 x2 x3 x4 : Int} {D : ga_D} : ga_fr 5286 5304 D (g_X56_passing x1 x2 x3 x4 D) := by
  unfold g_X56_passing
  refine g_X56_passing_l3_fr (fun x1 x2 x3 x4 D33 => ?_) _ _ _ _ _ _ _ 
  refine g_X56_passing_l36_fr (fun x2 D104 => ?_) _ _ _ _ _ _ _ 
  refine g_X56_passing_l110_fr (fun x5 D134 => ?_) _ _ _ _ _ 
  exact fr_some
theorem g_X56_power_l5_fr  {k22 : Int → ga_D → ga_S} (hk22 : ∀ (x2 : Int) (D : ga_D), ga_fr 5286 5304 D (k22 x2 D)) : ∀ (n : Nat) (x0 x1 x2 x4 : Int) (D : ga_D), ga_fr 5286 5304 D (g_X56_power_l5 n x0 x1 x2 x4 D k22) := by
  intro n
  induction n with
  | zero => intro x0 x1 x2 x4 D; exact fr_none
  | succ n ih =>
    intro x0 x1 x2 x4 D
    show ga_fr 5286 5304 D (if x1 ≤ x4 then (k22 x2 D) else (ga_let (aw_w64 (x2 * x0)) (fun v15 => ga_let (aw_w32 (x4 + 1)) (fun v16 => g_X56_power_l5 n x0 x1 v15 v16 D k22))))
    refine fr_ite (fun c8 => ?_) (fun c8 => ?_)
    exact hk22 _ _ 
    refine fr_let (fun v15 => ?_)
    refine fr_let (fun v16 => ?_)
    exact ih _ _ _ _ _ 
theorem g_X56_power_fr {x0 x1 : Int} {D : ga_D} : ga_fr 5286 5304 D (g_X56_power x0 x1 D) := by
  unfold g_X56_power
  refine g_X56_power_l5_fr (fun x2 D22 => ?_) _ _ _ _ _ _ 
  exact fr_some
theorem g_X56_odds_fr {x1 x2 x4 x6 : Int} {D : ga_D} : ga_fr 5286 5304 D (g_X56_odds x1 x2 x4 x6 D) := by
  unfold g_X56_odds
  refine fr_ite (fun c1 => ?_) (fun c1 => ?_)
  exact fr_some
  refine fr_ite (fun c9 => ?_) (fun c9 => ?_)
  exact fr_some
  refine fr_bind (g_X56_isShare_fr) (fun r18 D18 => ?_)
  refine fr_ite (fun c21 => ?_) (fun c21 => ?_)
  refine fr_ck (fun ha34 => ?_)
  refine fr_ck (fun ha40 => ?_)
  refine fr_bind (g_X56_passing_fr) (fun r46 D46 => ?_)
  refine fr_ck (fun ha57 => ?_)
  refine fr_bind (g_X56_power_fr) (fun r58 D58 => ?_)
  refine fr_bind (g_X56_part_fr) (fun r63 D63 => ?_)
  exact fr_some
  exact fr_some
theorem g_X56_reckon_fr {x1 x2 x3 : Int} {D : ga_D} : ga_fr 5286 5304 D (g_X56_reckon x1 x2 x3 D) := by
  unfold g_X56_reckon
  refine fr_ck (fun ha10 => ?_)
  refine fr_bind (g_X56_power_fr) (fun r12 D12 => ?_)
  refine fr_upd (by decide) (fun D15 => ?_)
  refine fr_ck (fun ha28 => ?_)
  refine fr_ck (fun ha38 => ?_)
  refine fr_bind (g_X56_passing_fr) (fun r39 D39 => ?_)
  refine fr_ite (fun c46 => ?_) (fun c46 => ?_)
  refine fr_upd (by decide) (fun D61 => ?_)
  exact fr_some
  refine fr_upd (by decide) (fun D61 => ?_)
  exact fr_some
theorem g_X56_reckonGreater_fr {x1 x2 : Int} {D : ga_D} : ga_fr 5286 5304 D (g_X56_reckonGreater x1 x2 D) := by
  unfold g_X56_reckonGreater
  refine fr_bind (g_X56_reckon_fr) (fun r4 D4 => ?_)
  refine fr_let (fun v11 => ?_)
  refine fr_let (fun v16 => ?_)
  refine fr_bind (g_X56_reckon_fr) (fun r22 D22 => ?_)
  refine fr_ite (fun c39 => ?_) (fun c39 => ?_)
  exact fr_some
  refine fr_upd (by decide) (fun D44 => ?_)
  refine fr_upd (by decide) (fun D50 => ?_)
  exact fr_some
theorem g_X56_best_l124_fr  {k183 : Int → Int → Int → Int → Int → Int → ga_D → ga_S} (hk183 : ∀ (x1 x10 x11 x12 x14 x16 : Int) (D : ga_D), ga_fr 5286 5304 D (k183 x1 x10 x11 x12 x14 x16 D)) : ∀ (n : Nat) (x1 x10 x11 x12 x14 x16 x17 : Int) (D : ga_D), ga_fr 5286 5304 D (g_X56_best_l124 n x1 x10 x11 x12 x14 x16 x17 D k183) := by
  intro n
  induction n with
  | zero => intro x1 x10 x11 x12 x14 x16 x17 D; exact fr_none
  | succ n ih =>
    intro x1 x10 x11 x12 x14 x16 x17 D
    show ga_fr 5286 5304 D (if x16 < x17 then (k183 x1 x10 x11 x12 x14 x16 D) else (ga_bind (g_X56_reckonGreater x16 x17 D) (fun r136 D136 => if aw_w64 (x12 * (D136 5286 23)) ≤ aw_w64 ((D136 5286 22) * x14) then (ga_let (aw_w32 (x17 + 1)) (fun v177 => g_X56_best_l124 n x1 x10 x11 x12 x14 x16 v177 D136 k183)) else (ga_let (D136 5286 22) (fun v169 => ga_let (D136 5286 23) (fun v175 => ga_let (aw_w32 (x17 + 1)) (fun v177 => g_X56_best_l124 n x1 x16 x17 v169 v175 x16 v177 D136 k183)))))))
    refine fr_ite (fun c128 => ?_) (fun c128 => ?_)
    exact hk183 _ _ _ _ _ _ _ 
    refine fr_bind (g_X56_reckonGreater_fr) (fun r136 D136 => ?_)
    refine fr_ite (fun c154 => ?_) (fun c154 => ?_)
    refine fr_let (fun v177 => ?_)
    exact ih _ _ _ _ _ _ _ _ 
    refine fr_let (fun v169 => ?_)
    refine fr_let (fun v175 => ?_)
    refine fr_let (fun v177 => ?_)
    exact ih _ _ _ _ _ _ _ _ 
theorem g_X56_best_l115_fr  {k189 : Int → Int → ga_D → ga_S} (hk189 : ∀ (x10 x11 : Int) (D : ga_D), ga_fr 5286 5304 D (k189 x10 x11 D)) : ∀ (n : Nat) (x1 x10 x11 x12 x14 x16 : Int) (D : ga_D), ga_fr 5286 5304 D (g_X56_best_l115 n x1 x10 x11 x12 x14 x16 D k189) := by
  intro n
  induction n with
  | zero => intro x1 x10 x11 x12 x14 x16 D; exact fr_none
  | succ n ih =>
    intro x1 x10 x11 x12 x14 x16 D
    show ga_fr 5286 5304 D (if x1 < x16 then (k189 x10 x11 D) else (g_X56_best_l124 aw_fu x1 x10 x11 x12 x14 x16 0 D (fun x1 x10 x11 x12 x14 x16 D183 => ga_let (aw_w32 (x16 + 1)) (fun v183 => g_X56_best_l115 n x1 x10 x11 x12 x14 v183 D183 k189))))
    refine fr_ite (fun c118 => ?_) (fun c118 => ?_)
    exact hk189 _ _ _ 
    refine g_X56_best_l124_fr (fun x1 x10 x11 x12 x14 x16 D183 => ?_) _ _ _ _ _ _ _ _ _ 
    refine fr_let (fun v183 => ?_)
    exact ih _ _ _ _ _ _ _ 
theorem g_X56_best_fr {x1 x2 x4 x6 x8 : Int} {D : ga_D} : ga_fr 5286 5304 D (g_X56_best x1 x2 x4 x6 x8 D) := by
  unfold g_X56_best
  refine fr_ite (fun c6 => ?_) (fun c6 => ?_)
  exact fr_some
  refine fr_ite (fun c11 => ?_) (fun c11 => ?_)
  exact fr_some
  refine fr_ite (fun c17 => ?_) (fun c17 => ?_)
  exact fr_some
  refine fr_bind (g_X56_isShare_fr) (fun r26 D26 => ?_)
  refine fr_ite (fun c29 => ?_) (fun c29 => ?_)
  exact fr_some
  refine fr_bind (g_X56_isShare_fr) (fun r39 D39 => ?_)
  refine fr_ite (fun c42 => ?_) (fun c42 => ?_)
  exact fr_some
  refine fr_ite (fun c55 => ?_) (fun c55 => ?_)
  refine fr_ck (fun ha67 => ?_)
  refine fr_upd (by decide) (fun D67 => ?_)
  refine fr_ck (fun ha76 => ?_)
  refine fr_upd (by decide) (fun D76 => ?_)
  refine fr_ck (fun ha85 => ?_)
  refine fr_upd (by decide) (fun D85 => ?_)
  refine fr_ck (fun ha94 => ?_)
  refine fr_upd (by decide) (fun D94 => ?_)
  refine fr_upd (by decide) (fun D97 => ?_)
  refine g_X56_best_l115_fr (fun x10 x11 D189 => ?_) _ _ _ _ _ _ _ _ 
  refine fr_bind (g_X56_plan_fr) (fun r194 D194 => ?_)
  exact fr_some
  exact fr_some
theorem g_X56_risk_fr {x1 x2 x3 : Int} {D : ga_D} : ga_fr 5286 5304 D (g_X56_risk x1 x2 x3 D) := by
  unfold g_X56_risk
  refine fr_ite (fun c4 => ?_) (fun c4 => ?_)
  exact fr_some
  refine fr_ite (fun c8 => ?_) (fun c8 => ?_)
  exact fr_some
  refine fr_ite (fun c16 => ?_) (fun c16 => ?_)
  exact fr_some
  refine fr_ite (fun c20 => ?_) (fun c20 => ?_)
  exact fr_some
  refine fr_ite (fun c25 => ?_) (fun c25 => ?_)
  refine fr_ck (fun ha38 => ?_)
  refine fr_ck (fun ha44 => ?_)
  refine fr_bind (g_X56_reckon_fr) (fun r46 D46 => ?_)
  refine fr_bind (g_X56_part_fr) (fun r58 D58 => ?_)
  exact fr_some
  exact fr_some
theorem g_X56_repeats_l30_fr  {k106 : Int → Int → Int → Int → ga_D → ga_S} (hk106 : ∀ (x1 x2 x3 x4 : Int) (D : ga_D), ga_fr 5286 5304 D (k106 x1 x2 x3 x4 D)) : ∀ (n : Nat) (x1 x2 x3 x4 x5 : Int) (D : ga_D), ga_fr 5286 5304 D (g_X56_repeats_l30 n x1 x2 x3 x4 x5 D k106) := by
  intro n
  induction n with
  | zero => intro x1 x2 x3 x4 x5 D; exact fr_none
  | succ n ih =>
    intro x1 x2 x3 x4 x5 D
    show ga_fr 5286 5304 D (if x3 ≤ x5 then (k106 x1 x2 x3 x4 D) else (ga_let (aw_w32 ((aw_w32 (30 * x1)) + x3)) (fun v42 => ga_let (aw_w32 ((aw_w32 (30 * x1)) + x5)) (fun v51 => if x4 ≠ 0 then (ga_let (aw_w32 (x5 + 1)) (fun v100 => g_X56_repeats_l30 n x1 x2 x3 1 v100 D k106)) else (ga_ck (0 ≤ v42 ∧ v42 < 180) (ga_ck (0 ≤ v51 ∧ v51 < 180) (if D 5292 v42 ≠ D 5292 v51 then (ga_let (aw_w32 (x5 + 1)) (fun v100 => g_X56_repeats_l30 n x1 x2 x3 0 v100 D k106)) else (ga_ck (0 ≤ v42 ∧ v42 < 180) (ga_ck (0 ≤ v51 ∧ v51 < 180) (if D 5293 v42 ≠ D 5293 v51 then (ga_let (aw_w32 (x5 + 1)) (fun v100 => g_X56_repeats_l30 n x1 x2 x3 0 v100 D k106)) else (ga_let (aw_w32 (x5 + 1)) (fun v100 => g_X56_repeats_l30 n x1 x2 x3 1 v100 D k106))))))))))))
    refine fr_ite (fun c33 => ?_) (fun c33 => ?_)
    exact hk106 _ _ _ _ _ 
    refine fr_let (fun v42 => ?_)
    refine fr_let (fun v51 => ?_)
    refine fr_ite (fun c55 => ?_) (fun c55 => ?_)
    refine fr_let (fun v100 => ?_)
    exact ih _ _ _ _ _ _ 
    refine fr_ck (fun ha64 => ?_)
    refine fr_ck (fun ha71 => ?_)
    refine fr_ite (fun c72 => ?_) (fun c72 => ?_)
    refine fr_let (fun v100 => ?_)
    exact ih _ _ _ _ _ _ 
    refine fr_ck (fun ha81 => ?_)
    refine fr_ck (fun ha88 => ?_)
    refine fr_ite (fun c90 => ?_) (fun c90 => ?_)
    refine fr_let (fun v100 => ?_)
    exact ih _ _ _ _ _ _ 
    refine fr_let (fun v100 => ?_)
    exact ih _ _ _ _ _ _ 
theorem g_X56_repeats_l14_fr  {k125 : Int → ga_D → ga_S} (hk125 : ∀ (x2 : Int) (D : ga_D), ga_fr 5286 5304 D (k125 x2 D)) : ∀ (n : Nat) (x1 x2 x3 : Int) (D : ga_D), ga_fr 5286 5304 D (g_X56_repeats_l14 n x1 x2 x3 D k125) := by
  intro n
  induction n with
  | zero => intro x1 x2 x3 D; exact fr_none
  | succ n ih =>
    intro x1 x2 x3 D
    show ga_fr 5286 5304 D (ga_ck (0 ≤ x1 ∧ x1 < 6) (if D 5291 x1 ≤ x3 then (k125 x2 D) else (g_X56_repeats_l30 aw_fu x1 x2 x3 0 0 D (fun x1 x2 x3 x4 D106 => if x4 = 0 then (ga_let (aw_w32 (x3 + 1)) (fun v119 => g_X56_repeats_l14 n x1 x2 v119 D106 k125)) else (ga_let (aw_w32 (x2 + 1)) (fun v118 => ga_let (aw_w32 (x3 + 1)) (fun v119 => g_X56_repeats_l14 n x1 v118 v119 D106 k125)))))))
    refine fr_ck (fun ha20 => ?_)
    refine fr_ite (fun c21 => ?_) (fun c21 => ?_)
    exact hk125 _ _ 
    refine g_X56_repeats_l30_fr (fun x1 x2 x3 x4 D106 => ?_) _ _ _ _ _ _ _ 
    refine fr_ite (fun c108 => ?_) (fun c108 => ?_)
    refine fr_let (fun v119 => ?_)
    exact ih _ _ _ _ 
    refine fr_let (fun v118 => ?_)
    refine fr_let (fun v119 => ?_)
    exact ih _ _ _ _ 
theorem g_X56_repeats_fr {x1 : Int} {D : ga_D} : ga_fr 5286 5304 D (g_X56_repeats x1 D) := by
  unfold g_X56_repeats
  refine fr_bind (g_X56_isLot_fr) (fun r2 D2 => ?_)
  refine fr_ite (fun c5 => ?_) (fun c5 => ?_)
  refine g_X56_repeats_l14_fr (fun x2 D125 => ?_) _ _ _ _ _ 
  exact fr_some
  exact fr_some
theorem g_X56_step_j79_fr  (x1 x3 x5 : Int) (D : ga_D) : ga_fr 5286 5304 D (g_X56_step_j79 x1 x3 x5 D) := by
  unfold g_X56_step_j79
  refine fr_ck (fun ha89 => ?_)
  refine fr_upd (by decide) (fun D89 => ?_)
  refine fr_ck (fun ha100 => ?_)
  refine fr_upd (by decide) (fun D100 => ?_)
  refine fr_ck (fun ha112 => ?_)
  refine fr_upd (by decide) (fun D112 => ?_)
  refine fr_upd (by decide) (fun D120 => ?_)
  exact fr_some
theorem g_X56_step_fr {x1 x3 x5 : Int} {D : ga_D} : ga_fr 5286 5304 D (g_X56_step x1 x3 x5 D) := by
  unfold g_X56_step
  refine fr_ite (fun c6 => ?_) (fun c6 => ?_)
  exact fr_some
  refine fr_bind (g_X56_isShare_fr) (fun r14 D14 => ?_)
  refine fr_ite (fun c17 => ?_) (fun c17 => ?_)
  exact fr_some
  refine fr_ite (fun c24 => ?_) (fun c24 => ?_)
  exact fr_some
  refine fr_ite (fun c33 => ?_) (fun c33 => ?_)
  refine fr_ite (fun c42 => ?_) (fun c42 => ?_)
  refine g_X56_step_j79_fr _ _ _ _ 
  refine fr_ck (fun ha56 => ?_)
  refine fr_ck (fun ha69 => ?_)
  refine fr_ite (fun c74 => ?_) (fun c74 => ?_)
  refine g_X56_step_j79_fr _ _ _ _ 
  exact fr_some
  exact fr_some
theorem g_X56_third_fr {x1 x2 x4 : Int} {D : ga_D} : ga_fr 5286 5304 D (g_X56_third x1 x2 x4 D) := by
  unfold g_X56_third
  refine fr_bind (g_X56_isLot_fr) (fun r2 D2 => ?_)
  refine fr_ite (fun c5 => ?_) (fun c5 => ?_)
  exact fr_some
  refine fr_bind (g_X56_isShare_fr) (fun r14 D14 => ?_)
  refine fr_ite (fun c17 => ?_) (fun c17 => ?_)
  exact fr_some
  refine fr_ck (fun ha25 => ?_)
  refine fr_ite (fun c26 => ?_) (fun c26 => ?_)
  refine fr_ck (fun ha38 => ?_)
  refine fr_upd (by decide) (fun D38 => ?_)
  refine fr_ck (fun ha47 => ?_)
  refine fr_upd (by decide) (fun D47 => ?_)
  refine fr_bind (g_X56_stepOf_fr) (fun r52 D52 => ?_)
  refine fr_bind (g_X56_sumOf_fr) (fun r60 D60 => ?_)
  refine fr_bind (g_X56_sumOf_fr) (fun r67 D67 => ?_)
  refine fr_bind (g_X56_stepOf_fr) (fun r70 D70 => ?_)
  refine fr_ite (fun c73 => ?_) (fun c73 => ?_)
  exact fr_some
  exact fr_some
  exact fr_some
theorem g_X56_place_l22_fr  {k41 : Int → Int → ga_D → ga_S} (hk41 : ∀ (x1 x2 : Int) (D : ga_D), ga_fr 5286 5304 D (k41 x1 x2 D)) : ∀ (n : Nat) (x1 x2 x3 : Int) (D : ga_D), ga_fr 5286 5304 D (g_X56_place_l22 n x1 x2 x3 D k41) := by
  intro n
  induction n with
  | zero => intro x1 x2 x3 D; exact fr_none
  | succ n ih =>
    intro x1 x2 x3 D
    show ga_fr 5286 5304 D (if 100 ≤ x3 then (k41 x1 x2 D) else (ga_ck (0 ≤ x3 ∧ x3 < 100) (ga_let (ga_set D 5303 x3 x3) (fun D34 => ga_let (aw_w32 (x3 + 1)) (fun v35 => g_X56_place_l22 n x1 x2 v35 D34 k41)))))
    refine fr_ite (fun c25 => ?_) (fun c25 => ?_)
    exact hk41 _ _ _ 
    refine fr_ck (fun ha34 => ?_)
    refine fr_upd (by decide) (fun D34 => ?_)
    refine fr_let (fun v35 => ?_)
    exact ih _ _ _ _ 
theorem g_X56_place_l57_fr  {k123 : Int → ga_D → ga_S} (hk123 : ∀ (x2 : Int) (D : ga_D), ga_fr 5286 5304 D (k123 x2 D)) : ∀ (n : Nat) (x2 x3 x5 : Int) (D : ga_D), ga_fr 5286 5304 D (g_X56_place_l57 n x2 x3 x5 D k123) := by
  intro n
  induction n with
  | zero => intro x2 x3 x5 D; exact fr_none
  | succ n ih =>
    intro x2 x3 x5 D
    show ga_fr 5286 5304 D (if x5 ≤ 0 then (k123 x2 D) else (ga_let (aw_w64 ((aw_w64 (x3 * 6364136223846793005)) + 1442695040888963407)) (fun v71 => ga_ck (aw_w32 (x5 + 1) ≠ 0) (ga_let (aw_w32 (Int.tmod (aw_lushr v71 33) (aw_w32 (x5 + 1)))) (fun v83 => ga_ck (0 ≤ x5 ∧ x5 < 100) (ga_let (D 5303 x5) (fun v92 => ga_ck (0 ≤ v83 ∧ v83 < 100) (ga_ck (0 ≤ x5 ∧ x5 < 100) (ga_let (ga_set D 5303 x5 (D 5303 v83)) (fun D107 => ga_ck (0 ≤ v83 ∧ v83 < 100) (ga_let (ga_set D107 5303 v83 v92) (fun D116 => ga_let (aw_w32 (x5 + (-1))) (fun v117 => g_X56_place_l57 n x2 v71 v117 D116 k123)))))))))))))
    refine fr_ite (fun c59 => ?_) (fun c59 => ?_)
    exact hk123 _ _ 
    refine fr_let (fun v71 => ?_)
    refine fr_ck (fun hz81 => ?_)
    refine fr_let (fun v83 => ?_)
    refine fr_ck (fun ha91 => ?_)
    refine fr_let (fun v92 => ?_)
    refine fr_ck (fun ha106 => ?_)
    refine fr_ck (fun ha107 => ?_)
    refine fr_upd (by decide) (fun D107 => ?_)
    refine fr_ck (fun ha116 => ?_)
    refine fr_upd (by decide) (fun D116 => ?_)
    refine fr_let (fun v117 => ?_)
    exact ih _ _ _ _ 
theorem g_X56_place_fr {x1 x2 : Int} {D : ga_D} : ga_fr 5286 5304 D (g_X56_place x1 x2 D) := by
  unfold g_X56_place
  refine fr_bind (g_X56_isLot_fr) (fun r2 D2 => ?_)
  refine fr_ite (fun c5 => ?_) (fun c5 => ?_)
  exact fr_some
  refine fr_ite (fun c9 => ?_) (fun c9 => ?_)
  exact fr_some
  refine fr_ite (fun c15 => ?_) (fun c15 => ?_)
  refine g_X56_place_l22_fr (fun x1 x2 D41 => ?_) _ _ _ _ _ 
  refine fr_let (fun v52 => ?_)
  refine g_X56_place_l57_fr (fun x2 D123 => ?_) _ _ _ _ _ 
  refine fr_ck (fun ha128 => ?_)
  exact fr_some
  exact fr_some
theorem g_X56_dry_j104_fr  (x1 x2 x4 x6 : Int) (D : ga_D) : ga_fr 5286 5304 D (g_X56_dry_j104 x1 x2 x4 x6 D) := by
  unfold g_X56_dry_j104
  refine fr_ck (fun ha111 => ?_)
  refine fr_upd (by decide) (fun D111 => ?_)
  refine fr_ck (fun ha120 => ?_)
  refine fr_upd (by decide) (fun D120 => ?_)
  refine fr_ck (fun ha127 => ?_)
  refine fr_ck (fun ha130 => ?_)
  refine fr_upd (by decide) (fun D130 => ?_)
  exact fr_some
theorem g_X56_dry_fr {x1 x2 x4 : Int} {D : ga_D} : ga_fr 5286 5304 D (g_X56_dry x1 x2 x4 D) := by
  unfold g_X56_dry
  refine fr_bind (g_X56_isLot_fr) (fun r2 D2 => ?_)
  refine fr_ite (fun c5 => ?_) (fun c5 => ?_)
  exact fr_some
  refine fr_ite (fun c11 => ?_) (fun c11 => ?_)
  exact fr_some
  refine fr_ite (fun c19 => ?_) (fun c19 => ?_)
  exact fr_some
  refine fr_ite (fun c26 => ?_) (fun c26 => ?_)
  exact fr_some
  refine fr_ite (fun c35 => ?_) (fun c35 => ?_)
  exact fr_some
  refine fr_ck (fun ha43 => ?_)
  refine fr_ite (fun c46 => ?_) (fun c46 => ?_)
  refine fr_ck (fun ha60 => ?_)
  refine fr_let (fun v62 => ?_)
  refine fr_ck (fun ha69 => ?_)
  refine fr_ite (fun c70 => ?_) (fun c70 => ?_)
  refine g_X56_dry_j104_fr _ _ _ _ _ 
  refine fr_ck (fun ha82 => ?_)
  refine fr_ite (fun c84 => ?_) (fun c84 => ?_)
  exact fr_some
  refine fr_ck (fun ha97 => ?_)
  refine fr_ite (fun c99 => ?_) (fun c99 => ?_)
  refine g_X56_dry_j104_fr _ _ _ _ _ 
  exact fr_some
  exact fr_some
theorem g_X56_moisture_j81_fr  (x2 x3 x5 s0 : Int) (D : ga_D) : ga_fr 5286 5304 D (g_X56_moisture_j81 x2 x3 x5 s0 D) := by
  unfold g_X56_moisture_j81
  refine fr_ite (fun c85 => ?_) (fun c85 => ?_)
  exact fr_some
  refine fr_bind (g_X56_part_fr) (fun r94 D94 => ?_)
  exact fr_some
theorem g_X56_moisture_fr {x1 x2 : Int} {D : ga_D} : ga_fr 5286 5304 D (g_X56_moisture x1 x2 D) := by
  unfold g_X56_moisture
  refine fr_bind (g_X56_isLot_fr) (fun r2 D2 => ?_)
  refine fr_ite (fun c5 => ?_) (fun c5 => ?_)
  exact fr_some
  refine fr_ck (fun ha13 => ?_)
  refine fr_ite (fun c15 => ?_) (fun c15 => ?_)
  refine fr_ck (fun ha30 => ?_)
  refine fr_let (fun v31 => ?_)
  refine fr_ck (fun ha45 => ?_)
  refine fr_ck (fun ha49 => ?_)
  refine fr_let (fun v50 => ?_)
  refine fr_ck (fun ha65 => ?_)
  refine fr_ck (fun ha69 => ?_)
  refine fr_ite (fun c73 => ?_) (fun c73 => ?_)
  refine g_X56_moisture_j81_fr _ _ _ _ _ 
  refine g_X56_moisture_j81_fr _ _ _ _ _ 
  exact fr_some
theorem g_X56_trend_fr {x1 : Int} {D : ga_D} : ga_fr 5286 5304 D (g_X56_trend x1 D) := by
  unfold g_X56_trend
  refine fr_bind (g_X56_isLot_fr) (fun r2 D2 => ?_)
  refine fr_ite (fun c5 => ?_) (fun c5 => ?_)
  exact fr_some
  refine fr_bind (g_X56_isLot_fr) (fun r12 D12 => ?_)
  refine fr_ite (fun c15 => ?_) (fun c15 => ?_)
  exact fr_some
  refine fr_ck (fun ha23 => ?_)
  refine fr_ite (fun c24 => ?_) (fun c24 => ?_)
  exact fr_some
  refine fr_ck (fun ha34 => ?_)
  refine fr_ite (fun c35 => ?_) (fun c35 => ?_)
  refine fr_bind (g_X56_pureAbove_fr) (fun r42 D42 => ?_)
  refine fr_bind (g_X56_pureBelow_fr) (fun r49 D49 => ?_)
  refine fr_let (fun v53 => ?_)
  refine fr_bind (g_X56_pureAbove_fr) (fun r58 D58 => ?_)
  refine fr_bind (g_X56_pureBelow_fr) (fun r63 D63 => ?_)
  refine fr_let (fun v67 => ?_)
  refine fr_ite (fun c73 => ?_) (fun c73 => ?_)
  refine fr_ite (fun c84 => ?_) (fun c84 => ?_)
  exact fr_some
  exact fr_some
  exact fr_some
  exact fr_some
