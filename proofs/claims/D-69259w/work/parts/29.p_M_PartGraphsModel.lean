theorem g_X54_clear_l16_pr  {k40 : Int → ga_D → ga_S} (hk40 : ∀ (x1 : Int) (D : ga_D), ga_pr D (k40 x1 D)) : ∀ (n : Nat) (x1 x2 : Int) (D : ga_D), ga_pr D (g_X54_clear_l16 n x1 x2 D k40) := by
  intro n
  induction n with
  | zero => intro x1 x2 D; exact pr_none
  | succ n ih =>
    intro x1 x2 D
    show ga_pr D (if 100 ≤ x2 then (k40 x1 D) else (ga_ck (0 ≤ aw_w32 ((aw_w32 (100 * x1)) + x2) ∧ aw_w32 ((aw_w32 (100 * x1)) + x2) < 200) (ga_let (ga_set D 5254 (aw_w32 ((aw_w32 (100 * x1)) + x2)) 0) (fun D33 => ga_let (aw_w32 (x2 + 1)) (fun v34 => g_X54_clear_l16 n x1 v34 D33 k40)))))
    refine pr_ite (fun c19 => ?_) (fun c19 => ?_)
    exact hk40 _ _ 
    refine pr_ck (fun ha33 => ?_)
    refine pr_upd (ga_Pn K_5254 rfl) (fun D33 => ?_)
    refine pr_let (fun v34 => ?_)
    exact ih _ _ _ 
theorem g_X54_clear_l42_pr  {k68 : Int → ga_D → ga_S} (hk68 : ∀ (x1 : Int) (D : ga_D), ga_pr D (k68 x1 D)) : ∀ (n : Nat) (x1 x2 : Int) (D : ga_D), ga_pr D (g_X54_clear_l42 n x1 x2 D k68) := by
  intro n
  induction n with
  | zero => intro x1 x2 D; exact pr_none
  | succ n ih =>
    intro x1 x2 D
    show ga_pr D (if 600 ≤ x2 then (k68 x1 D) else (ga_ck (0 ≤ aw_w32 ((aw_w32 (600 * x1)) + x2) ∧ aw_w32 ((aw_w32 (600 * x1)) + x2) < 1200) (ga_let (ga_set D 5255 (aw_w32 ((aw_w32 (600 * x1)) + x2)) 0) (fun D61 => ga_let (aw_w32 (x2 + 1)) (fun v62 => g_X54_clear_l42 n x1 v62 D61 k68)))))
    refine pr_ite (fun c46 => ?_) (fun c46 => ?_)
    exact hk68 _ _ 
    refine pr_ck (fun ha61 => ?_)
    refine pr_upd (ga_Pn K_5255 rfl) (fun D61 => ?_)
    refine pr_let (fun v62 => ?_)
    exact ih _ _ _ 
theorem g_X54_clear_l70_pr  {k94 : Int → ga_D → ga_S} (hk94 : ∀ (x1 : Int) (D : ga_D), ga_pr D (k94 x1 D)) : ∀ (n : Nat) (x1 x2 : Int) (D : ga_D), ga_pr D (g_X54_clear_l70 n x1 x2 D k94) := by
  intro n
  induction n with
  | zero => intro x1 x2 D; exact pr_none
  | succ n ih =>
    intro x1 x2 D
    show ga_pr D (if 80 ≤ x2 then (k94 x1 D) else (ga_ck (0 ≤ aw_w32 ((aw_w32 (80 * x1)) + x2) ∧ aw_w32 ((aw_w32 (80 * x1)) + x2) < 160) (ga_let (ga_set D 5258 (aw_w32 ((aw_w32 (80 * x1)) + x2)) 0) (fun D87 => ga_let (aw_w32 (x2 + 1)) (fun v88 => g_X54_clear_l70 n x1 v88 D87 k94)))))
    refine pr_ite (fun c73 => ?_) (fun c73 => ?_)
    exact hk94 _ _ 
    refine pr_ck (fun ha87 => ?_)
    refine pr_upd (ga_Pn K_5258 rfl) (fun D87 => ?_)
    refine pr_let (fun v88 => ?_)
    exact ih _ _ _ 
theorem g_X54_clear_l96_pr  {k132 : ga_D → ga_S} (hk132 : ∀ (D : ga_D), ga_pr D (k132 D)) : ∀ (n : Nat) (x1 x2 : Int) (D : ga_D), ga_pr D (g_X54_clear_l96 n x1 x2 D k132) := by
  intro n
  induction n with
  | zero => intro x1 x2 D; exact pr_none
  | succ n ih =>
    intro x1 x2 D
    show ga_pr D (if 10 ≤ x2 then (k132 D) else (ga_ck (0 ≤ aw_w32 ((aw_w32 (10 * x1)) + x2) ∧ aw_w32 ((aw_w32 (10 * x1)) + x2) < 20) (ga_let (ga_set D 5259 (aw_w32 ((aw_w32 (10 * x1)) + x2)) (-1)) (fun D113 => ga_ck (0 ≤ aw_w32 ((aw_w32 (10 * x1)) + x2) ∧ aw_w32 ((aw_w32 (10 * x1)) + x2) < 20) (ga_let (ga_set D113 5260 (aw_w32 ((aw_w32 (10 * x1)) + x2)) 0) (fun D125 => ga_let (aw_w32 (x2 + 1)) (fun v126 => g_X54_clear_l96 n x1 v126 D125 k132)))))))
    refine pr_ite (fun c99 => ?_) (fun c99 => ?_)
    exact hk132 _ 
    refine pr_ck (fun ha113 => ?_)
    refine pr_upd (ga_Pn K_5259 rfl) (fun D113 => ?_)
    refine pr_ck (fun ha125 => ?_)
    refine pr_upd (ga_Pn K_5260 rfl) (fun D125 => ?_)
    refine pr_let (fun v126 => ?_)
    exact ih _ _ _ 
theorem g_X54_clear_pr {x1 : Int} {D : ga_D} : ga_pr D (g_X54_clear x1 D) := by
  unfold g_X54_clear
  refine pr_ck (fun ha6 => ?_)
  refine pr_upd (ga_Pn K_5251 rfl) (fun D6 => ?_)
  refine pr_ck (fun ha13 => ?_)
  refine pr_upd (ga_Pn K_5256 rfl) (fun D13 => ?_)
  refine g_X54_clear_l16_pr (fun x1 D40 => ?_) _ _ _ _ 
  refine g_X54_clear_l42_pr (fun x1 D68 => ?_) _ _ _ _ 
  refine g_X54_clear_l70_pr (fun x1 D94 => ?_) _ _ _ _ 
  refine g_X54_clear_l96_pr (fun D132 => ?_) _ _ _ _ 
  exact pr_some
theorem g_X54_wayAt_pr {x0 x1 x2 x3 : Int} {D : ga_D} : ga_pr D (g_X54_wayAt x0 x1 x2 x3 D) := by
  unfold g_X54_wayAt
  exact pr_some
theorem g_X54_isOff_pr {x0 x2 : Int} {D : ga_D} : ga_pr D (g_X54_isOff x0 x2 D) := by
  unfold g_X54_isOff
  refine pr_ite (fun c7 => ?_) (fun c7 => ?_)
  exact pr_some
  exact pr_some
theorem g_X54_isPlain_l18_pr  {k71 : Int → ga_D → ga_S} (hk71 : ∀ (x4 : Int) (D : ga_D), ga_pr D (k71 x4 D)) : ∀ (n : Nat) (x1 x2 x4 x5 : Int) (D : ga_D), ga_pr D (g_X54_isPlain_l18 n x1 x2 x4 x5 D k71) := by
  intro n
  induction n with
  | zero => intro x1 x2 x4 x5 D; exact pr_none
  | succ n ih =>
    intro x1 x2 x4 x5 D
    show ga_pr D (ga_ck ((0 : Int) ≤ 0 ∧ 0 < 2) (if D 5251 0 ≤ x5 then (k71 x4 D) else (if x4 = 0 then (ga_let (aw_w32 (x5 + 1)) (fun v65 => g_X54_isPlain_l18 n x1 x2 0 v65 D k71)) else (ga_ck (0 ≤ aw_w32 ((aw_w32 (10 * x5)) + x1) ∧ aw_w32 ((aw_w32 (10 * x5)) + x1) < 200) (if D 5254 (aw_w32 ((aw_w32 (10 * x5)) + x1)) = 0 then (ga_let (aw_w32 (x5 + 1)) (fun v65 => g_X54_isPlain_l18 n x1 x2 1 v65 D k71)) else (ga_bind (g_X54_isOff x2 x5 D) (fun r52 D52 => if r52 = 0 then (ga_let (aw_w32 (x5 + 1)) (fun v65 => g_X54_isPlain_l18 n x1 x2 0 v65 D52 k71)) else (ga_let (aw_w32 (x5 + 1)) (fun v65 => g_X54_isPlain_l18 n x1 x2 1 v65 D52 k71)))))))))
    refine pr_ck (fun ha25 => ?_)
    refine pr_ite (fun c26 => ?_) (fun c26 => ?_)
    exact hk71 _ _ 
    refine pr_ite (fun c31 => ?_) (fun c31 => ?_)
    refine pr_let (fun v65 => ?_)
    exact ih _ _ _ _ _ 
    refine pr_ck (fun ha45 => ?_)
    refine pr_ite (fun c46 => ?_) (fun c46 => ?_)
    refine pr_let (fun v65 => ?_)
    exact ih _ _ _ _ _ 
    refine pr_bind (g_X54_isOff_pr) (fun r52 D52 => ?_)
    refine pr_ite (fun c55 => ?_) (fun c55 => ?_)
    refine pr_let (fun v65 => ?_)
    exact ih _ _ _ _ _ 
    refine pr_let (fun v65 => ?_)
    exact ih _ _ _ _ _ 
theorem g_X54_isPlain_pr {x1 x2 : Int} {D : ga_D} : ga_pr D (g_X54_isPlain x1 x2 D) := by
  unfold g_X54_isPlain
  refine pr_bind (g_X54_isOff_pr) (fun r2 D2 => ?_)
  refine pr_ite (fun c5 => ?_) (fun c5 => ?_)
  refine g_X54_isPlain_l18_pr (fun x4 D71 => ?_) _ _ _ _ _ _ 
  refine pr_ck (fun hr73 => ?_)
  exact pr_some
  refine g_X54_isPlain_l18_pr (fun x4 D71 => ?_) _ _ _ _ _ _ 
  refine pr_ck (fun hr73 => ?_)
  exact pr_some
theorem g_X54_isFree_l19_pr  {k74 : Int → Int → Int → Int → Int → ga_D → ga_S} (hk74 : ∀ (x1 x2 x4 x5 x6 : Int) (D : ga_D), ga_pr D (k74 x1 x2 x4 x5 x6 D)) : ∀ (n : Nat) (x1 x2 x4 x5 x6 x7 : Int) (D : ga_D), ga_pr D (g_X54_isFree_l19 n x1 x2 x4 x5 x6 x7 D k74) := by
  intro n
  induction n with
  | zero => intro x1 x2 x4 x5 x6 x7 D; exact pr_none
  | succ n ih =>
    intro x1 x2 x4 x5 x6 x7 D
    show ga_pr D (ga_ck ((0 : Int) ≤ 0 ∧ 0 < 2) (if D 5251 0 ≤ x7 then (k74 x1 x2 x4 x5 x6 D) else (if x6 = 0 then (ga_let (aw_w32 (x7 + 1)) (fun v68 => g_X54_isFree_l19 n x1 x2 x4 x5 0 v68 D k74)) else (ga_bind (g_X54_wayAt 0 x1 x5 x7 D) (fun r45 D45 => ga_ck (0 ≤ r45 ∧ r45 < 1200) (if D45 5255 r45 = 0 then (ga_let (aw_w32 (x7 + 1)) (fun v68 => g_X54_isFree_l19 n x1 x2 x4 x5 1 v68 D45 k74)) else (ga_bind (g_X54_isOff x2 x7 D45) (fun r55 D55 => if r55 = 0 then (ga_let (aw_w32 (x7 + 1)) (fun v68 => g_X54_isFree_l19 n x1 x2 x4 x5 0 v68 D55 k74)) else (ga_let (aw_w32 (x7 + 1)) (fun v68 => g_X54_isFree_l19 n x1 x2 x4 x5 1 v68 D55 k74))))))))))
    refine pr_ck (fun ha26 => ?_)
    refine pr_ite (fun c27 => ?_) (fun c27 => ?_)
    exact hk74 _ _ _ _ _ _ 
    refine pr_ite (fun c32 => ?_) (fun c32 => ?_)
    refine pr_let (fun v68 => ?_)
    exact ih _ _ _ _ _ _ _ 
    refine pr_bind (g_X54_wayAt_pr) (fun r45 D45 => ?_)
    refine pr_ck (fun ha48 => ?_)
    refine pr_ite (fun c49 => ?_) (fun c49 => ?_)
    refine pr_let (fun v68 => ?_)
    exact ih _ _ _ _ _ _ _ 
    refine pr_bind (g_X54_isOff_pr) (fun r55 D55 => ?_)
    refine pr_ite (fun c58 => ?_) (fun c58 => ?_)
    refine pr_let (fun v68 => ?_)
    exact ih _ _ _ _ _ _ _ 
    refine pr_let (fun v68 => ?_)
    exact ih _ _ _ _ _ _ _ 
theorem g_X54_isFree_l6_pr  {k97 : Int → Int → Int → ga_D → ga_S} (hk97 : ∀ (x1 x2 x4 : Int) (D : ga_D), ga_pr D (k97 x1 x2 x4 D)) : ∀ (n : Nat) (x1 x2 x4 x5 : Int) (D : ga_D), ga_pr D (g_X54_isFree_l6 n x1 x2 x4 x5 D k97) := by
  intro n
  induction n with
  | zero => intro x1 x2 x4 x5 D; exact pr_none
  | succ n ih =>
    intro x1 x2 x4 x5 D
    show ga_pr D (if 6 ≤ x5 then (k97 x1 x2 x4 D) else (g_X54_isFree_l19 aw_fu x1 x2 x4 x5 1 0 D (fun x1 x2 x4 x5 x6 D74 => if x4 ≠ 0 then (ga_let (aw_w32 (x5 + 1)) (fun v91 => g_X54_isFree_l6 n x1 x2 1 v91 D74 k97)) else (if x6 = 0 then (ga_let (aw_w32 (x5 + 1)) (fun v91 => g_X54_isFree_l6 n x1 x2 0 v91 D74 k97)) else (ga_let (aw_w32 (x5 + 1)) (fun v91 => g_X54_isFree_l6 n x1 x2 1 v91 D74 k97))))))
    refine pr_ite (fun c10 => ?_) (fun c10 => ?_)
    exact hk97 _ _ _ _ 
    refine g_X54_isFree_l19_pr (fun x1 x2 x4 x5 x6 D74 => ?_) _ _ _ _ _ _ _ _ 
    refine pr_ite (fun c76 => ?_) (fun c76 => ?_)
    refine pr_let (fun v91 => ?_)
    exact ih _ _ _ _ _ 
    refine pr_ite (fun c81 => ?_) (fun c81 => ?_)
    refine pr_let (fun v91 => ?_)
    exact ih _ _ _ _ _ 
    refine pr_let (fun v91 => ?_)
    exact ih _ _ _ _ _ 
theorem g_X54_isFree_pr {x1 x2 : Int} {D : ga_D} : ga_pr D (g_X54_isFree x1 x2 D) := by
  unfold g_X54_isFree
  refine g_X54_isFree_l6_pr (fun x1 x2 x4 D97 => ?_) _ _ _ _ _ _ 
  refine pr_ite (fun c99 => ?_) (fun c99 => ?_)
  exact pr_some
  refine pr_bind (g_X54_isPlain_pr) (fun r105 D105 => ?_)
  refine pr_ite (fun c108 => ?_) (fun c108 => ?_)
  exact pr_some
  exact pr_some
theorem g_X54_allOff_l15_pr  {k59 : Int → Int → Int → ga_D → ga_S} (hk59 : ∀ (x1 x2 x4 : Int) (D : ga_D), ga_pr D (k59 x1 x2 x4 D)) : ∀ (n : Nat) (x1 x2 x4 x5 : Int) (D : ga_D), ga_pr D (g_X54_allOff_l15 n x1 x2 x4 x5 D k59) := by
  intro n
  induction n with
  | zero => intro x1 x2 x4 x5 D; exact pr_none
  | succ n ih =>
    intro x1 x2 x4 x5 D
    show ga_pr D (ga_ck ((0 : Int) ≤ 0 ∧ 0 < 2) (if D 5251 0 ≤ x5 then (k59 x1 x2 x4 D) else (if x5 = x1 then (ga_let (aw_lor x2 0) (fun v52 => ga_let (aw_w32 (x5 + 1)) (fun v53 => g_X54_allOff_l15 n x1 v52 x4 v53 D k59))) else (ga_bind (g_X54_isFree x5 x2 D) (fun r37 D37 => if r37 = 0 then (ga_let (aw_lor x2 0) (fun v52 => ga_let (aw_w32 (x5 + 1)) (fun v53 => g_X54_allOff_l15 n x1 v52 x4 v53 D37 k59))) else (ga_let (aw_lor x2 (aw_lshl 1 x5)) (fun v52 => ga_let (aw_w32 (x5 + 1)) (fun v53 => g_X54_allOff_l15 n x1 v52 x4 v53 D37 k59))))))))
    refine pr_ck (fun ha22 => ?_)
    refine pr_ite (fun c23 => ?_) (fun c23 => ?_)
    exact hk59 _ _ _ _ 
    refine pr_ite (fun c30 => ?_) (fun c30 => ?_)
    refine pr_let (fun v52 => ?_)
    refine pr_let (fun v53 => ?_)
    exact ih _ _ _ _ _ 
    refine pr_bind (g_X54_isFree_pr) (fun r37 D37 => ?_)
    refine pr_ite (fun c40 => ?_) (fun c40 => ?_)
    refine pr_let (fun v52 => ?_)
    refine pr_let (fun v53 => ?_)
    exact ih _ _ _ _ _ 
    refine pr_let (fun v52 => ?_)
    refine pr_let (fun v53 => ?_)
    exact ih _ _ _ _ _ 
theorem g_X54_allOff_l5_pr  {k65 : Int → ga_D → ga_S} (hk65 : ∀ (x2 : Int) (D : ga_D), ga_pr D (k65 x2 D)) : ∀ (n : Nat) (x1 x2 x4 : Int) (D : ga_D), ga_pr D (g_X54_allOff_l5 n x1 x2 x4 D k65) := by
  intro n
  induction n with
  | zero => intro x1 x2 x4 D; exact pr_none
  | succ n ih =>
    intro x1 x2 x4 D
    show ga_pr D (if 10 ≤ x4 then (k65 x2 D) else (g_X54_allOff_l15 aw_fu x1 x2 x4 0 D (fun x1 x2 x4 D59 => ga_let (aw_w32 (x4 + 1)) (fun v59 => g_X54_allOff_l5 n x1 x2 v59 D59 k65))))
    refine pr_ite (fun c9 => ?_) (fun c9 => ?_)
    exact hk65 _ _ 
    refine g_X54_allOff_l15_pr (fun x1 x2 x4 D59 => ?_) _ _ _ _ _ _ 
    refine pr_let (fun v59 => ?_)
    exact ih _ _ _ _ 
theorem g_X54_allOff_pr {x1 : Int} {D : ga_D} : ga_pr D (g_X54_allOff x1 D) := by
  unfold g_X54_allOff
  refine g_X54_allOff_l5_pr (fun x2 D65 => ?_) _ _ _ _ _ 
  exact pr_some
theorem g_X54_ring_l17_pr  {k43 : Int → ga_D → ga_S} {k55 : ga_D → ga_S} (hk43 : ∀ (x5 : Int) (D : ga_D), ga_pr D (k43 x5 D)) (hk55 : ∀ (D : ga_D), ga_pr D (k55 D)) : ∀ (n : Nat) (x1 x2 x4 x5 : Int) (D : ga_D), ga_pr D (g_X54_ring_l17 n x1 x2 x4 x5 D k43 k55) := by
  intro n
  induction n with
  | zero => intro x1 x2 x4 x5 D; exact pr_none
  | succ n ih =>
    intro x1 x2 x4 x5 D
    show ga_pr D (ga_ck ((0 : Int) ≤ 0 ∧ 0 < 2) (if D 5251 0 ≤ x5 then (k55 D) else (ga_bind (g_X54_isOff x2 x5 D) (fun r31 D31 => if r31 ≠ 0 then (ga_let (aw_w32 (x5 + 1)) (fun v49 => g_X54_ring_l17 n x1 x2 x4 v49 D31 k43 k55)) else (if x4 ≠ x1 then (ga_let (aw_w32 (x4 + 1)) (fun v46 => ga_let (aw_w32 (x5 + 1)) (fun v49 => g_X54_ring_l17 n x1 x2 v46 v49 D31 k43 k55))) else (k43 x5 D31))))))
    refine pr_ck (fun ha24 => ?_)
    refine pr_ite (fun c25 => ?_) (fun c25 => ?_)
    exact hk55 _ 
    refine pr_bind (g_X54_isOff_pr) (fun r31 D31 => ?_)
    refine pr_ite (fun c34 => ?_) (fun c34 => ?_)
    refine pr_let (fun v49 => ?_)
    exact ih _ _ _ _ _ 
    refine pr_ite (fun c40 => ?_) (fun c40 => ?_)
    refine pr_let (fun v46 => ?_)
    refine pr_let (fun v49 => ?_)
    exact ih _ _ _ _ _ 
    exact hk43 _ _ 
theorem g_X54_ring_pr {x1 : Int} {D : ga_D} : ga_pr D (g_X54_ring x1 D) := by
  unfold g_X54_ring
  refine pr_upd (ga_Pn K_5250 rfl) (fun D2 => ?_)
  refine pr_bind (g_X54_allOff_pr) (fun r7 D7 => ?_)
  refine g_X54_ring_l17_pr (fun x5 D43 => ?_) (fun D55 => ?_) _ _ _ _ _ _ 
  exact pr_some
  exact pr_some
theorem g_X54_isPart_pr {x1 x2 : Int} {D : ga_D} : ga_pr D (g_X54_isPart x1 x2 D) := by
  unfold g_X54_isPart
  refine pr_ite (fun c1 => ?_) (fun c1 => ?_)
  exact pr_some
  refine pr_ck (fun ha10 => ?_)
  refine pr_ite (fun c11 => ?_) (fun c11 => ?_)
  exact pr_some
  exact pr_some
theorem g_X54_before_l33_pr  {k68 : Int → ga_D → ga_S} {k80 : ga_D → ga_S} (hk68 : ∀ (x4 : Int) (D : ga_D), ga_pr D (k68 x4 D)) (hk80 : ∀ (D : ga_D), ga_pr D (k80 D)) : ∀ (n : Nat) (x1 x2 x3 x4 : Int) (D : ga_D), ga_pr D (g_X54_before_l33 n x1 x2 x3 x4 D k68 k80) := by
  intro n
  induction n with
  | zero => intro x1 x2 x3 x4 D; exact pr_none
  | succ n ih =>
    intro x1 x2 x3 x4 D
    show ga_pr D (ga_ck ((0 : Int) ≤ 0 ∧ 0 < 2) (if D 5251 0 ≤ x4 then (k80 D) else (if x4 = x1 then (ga_let (aw_w32 (x4 + 1)) (fun v74 => g_X54_before_l33 n x1 x2 x3 v74 D k68 k80)) else (ga_bind (g_X54_allOff x4 D) (fun r53 D53 => ga_bind (g_X54_isOff r53 x1 D53) (fun r57 D57 => if r57 ≠ 0 then (ga_let (aw_w32 (x4 + 1)) (fun v74 => g_X54_before_l33 n x1 x2 x3 v74 D57 k68 k80)) else (if x3 ≠ x2 then (ga_let (aw_w32 (x3 + 1)) (fun v71 => ga_let (aw_w32 (x4 + 1)) (fun v74 => g_X54_before_l33 n x1 x2 v71 v74 D57 k68 k80))) else (k68 x4 D57))))))))
    refine pr_ck (fun ha40 => ?_)
    refine pr_ite (fun c41 => ?_) (fun c41 => ?_)
    exact hk80 _ 
    refine pr_ite (fun c47 => ?_) (fun c47 => ?_)
    refine pr_let (fun v74 => ?_)
    exact ih _ _ _ _ _ 
    refine pr_bind (g_X54_allOff_pr) (fun r53 D53 => ?_)
    refine pr_bind (g_X54_isOff_pr) (fun r57 D57 => ?_)
    refine pr_ite (fun c60 => ?_) (fun c60 => ?_)
    refine pr_let (fun v74 => ?_)
    exact ih _ _ _ _ _ 
    refine pr_ite (fun c65 => ?_) (fun c65 => ?_)
    refine pr_let (fun v71 => ?_)
    refine pr_let (fun v74 => ?_)
    exact ih _ _ _ _ _ 
    exact hk68 _ _ 
theorem g_X54_before_pr {x1 x2 : Int} {D : ga_D} : ga_pr D (g_X54_before x1 x2 D) := by
  unfold g_X54_before
  refine pr_upd (ga_Pn K_5250 rfl) (fun D2 => ?_)
  refine pr_bind (g_X54_isPart_pr) (fun r8 D8 => ?_)
  refine pr_ite (fun c11 => ?_) (fun c11 => ?_)
  exact pr_some
  refine pr_bind (g_X54_allOff_pr) (fun r16 D16 => ?_)
  refine pr_bind (g_X54_isOff_pr) (fun r20 D20 => ?_)
  refine pr_ite (fun c23 => ?_) (fun c23 => ?_)
  refine g_X54_before_l33_pr (fun x4 D68 => ?_) (fun D80 => ?_) _ _ _ _ _ _ 
  exact pr_some
  exact pr_some
  exact pr_some
theorem g_X54_unit_pr {x1 : Int} {D : ga_D} : ga_pr D (g_X54_unit x1 D) := by
  unfold g_X54_unit
  refine pr_upd (ga_Pn K_5250 rfl) (fun D2 => ?_)
  refine pr_ite (fun c6 => ?_) (fun c6 => ?_)
  exact pr_some
  refine pr_ite (fun c13 => ?_) (fun c13 => ?_)
  exact pr_some
  refine pr_ite (fun c23 => ?_) (fun c23 => ?_)
  refine pr_ck (fun ha38 => ?_)
  refine pr_upd (ga_Pn K_5261 rfl) (fun D38 => ?_)
  refine pr_upd (ga_Pn K_5250 rfl) (fun D46 => ?_)
  exact pr_some
  exact pr_some
theorem g_X54_isGap_pr {x1 : Int} {D : ga_D} : ga_pr D (g_X54_isGap x1 D) := by
  unfold g_X54_isGap
  refine pr_ck (fun ha5 => ?_)
  refine pr_ite (fun c8 => ?_) (fun c8 => ?_)
  exact pr_some
  refine pr_ck (fun ha16 => ?_)
  refine pr_ite (fun c19 => ?_) (fun c19 => ?_)
  exact pr_some
  exact pr_some
theorem g_X54_wordBegin_l2_pr  {k24 : Int → ga_D → ga_S} (hk24 : ∀ (x2 : Int) (D : ga_D), ga_pr D (k24 x2 D)) : ∀ (n : Nat) (x2 : Int) (D : ga_D), ga_pr D (g_X54_wordBegin_l2 n x2 D k24) := by
  intro n
  induction n with
  | zero => intro x2 D; exact pr_none
  | succ n ih =>
    intro x2 D
    show ga_pr D (if D 5250 11 ≤ x2 then (k24 x2 D) else (ga_bind (g_X54_isGap x2 D) (fun r12 D12 => if r12 = 0 then (k24 x2 D12) else (ga_let (aw_w32 (x2 + 1)) (fun v18 => g_X54_wordBegin_l2 n v18 D12 k24)))))
    refine pr_ite (fun c7 => ?_) (fun c7 => ?_)
    exact hk24 _ _ 
    refine pr_bind (g_X54_isGap_pr) (fun r12 D12 => ?_)
    refine pr_ite (fun c15 => ?_) (fun c15 => ?_)
    exact hk24 _ _ 
    refine pr_let (fun v18 => ?_)
    exact ih _ _ 
theorem g_X54_wordBegin_pr {x1 : Int} {D : ga_D} : ga_pr D (g_X54_wordBegin x1 D) := by
  unfold g_X54_wordBegin
  refine g_X54_wordBegin_l2_pr (fun x2 D24 => ?_) _ _ _ 
  exact pr_some
theorem g_X54_wordEnd_l2_pr  {k24 : Int → ga_D → ga_S} (hk24 : ∀ (x2 : Int) (D : ga_D), ga_pr D (k24 x2 D)) : ∀ (n : Nat) (x2 : Int) (D : ga_D), ga_pr D (g_X54_wordEnd_l2 n x2 D k24) := by
  intro n
  induction n with
  | zero => intro x2 D; exact pr_none
  | succ n ih =>
    intro x2 D
    show ga_pr D (if D 5250 11 ≤ x2 then (k24 x2 D) else (ga_bind (g_X54_isGap x2 D) (fun r12 D12 => if r12 ≠ 0 then (k24 x2 D12) else (ga_let (aw_w32 (x2 + 1)) (fun v18 => g_X54_wordEnd_l2 n v18 D12 k24)))))
    refine pr_ite (fun c7 => ?_) (fun c7 => ?_)
    exact hk24 _ _ 
    refine pr_bind (g_X54_isGap_pr) (fun r12 D12 => ?_)
    refine pr_ite (fun c15 => ?_) (fun c15 => ?_)
    exact hk24 _ _ 
    refine pr_let (fun v18 => ?_)
    exact ih _ _ 
theorem g_X54_wordEnd_pr {x1 : Int} {D : ga_D} : ga_pr D (g_X54_wordEnd x1 D) := by
  unfold g_X54_wordEnd
  refine g_X54_wordEnd_l2_pr (fun x2 D24 => ?_) _ _ _ 
  exact pr_some
theorem g_X54_wordOf_l5_pr  {k44 : Int → ga_D → ga_S} (hk44 : ∀ (x3 : Int) (D : ga_D), ga_pr D (k44 x3 D)) : ∀ (n : Nat) (x1 x2 x3 x5 : Int) (D : ga_D), ga_pr D (g_X54_wordOf_l5 n x1 x2 x3 x5 D k44) := by
  intro n
  induction n with
  | zero => intro x1 x2 x3 x5 D; exact pr_none
  | succ n ih =>
    intro x1 x2 x3 x5 D
    show ga_pr D (if x2 ≤ x5 then (k44 x3 D) else (if 8 ≤ aw_w32 (x2 - x1) then (k44 x3 D) else (ga_ck (0 ≤ x5 ∧ x5 < 2000) (ga_let (aw_w64 ((aw_w64 (256 * x3)) + (aw_and (D 5261 x5) 255))) (fun v37 => ga_let (aw_w32 (x5 + 1)) (fun v38 => g_X54_wordOf_l5 n x1 x2 v37 v38 D k44))))))
    refine pr_ite (fun c8 => ?_) (fun c8 => ?_)
    exact hk44 _ _ 
    refine pr_ite (fun c16 => ?_) (fun c16 => ?_)
    exact hk44 _ _ 
    refine pr_ck (fun ha30 => ?_)
    refine pr_let (fun v37 => ?_)
    refine pr_let (fun v38 => ?_)
    exact ih _ _ _ _ _ 
theorem g_X54_wordOf_pr {x1 x2 : Int} {D : ga_D} : ga_pr D (g_X54_wordOf x1 x2 D) := by
  unfold g_X54_wordOf
  refine g_X54_wordOf_l5_pr (fun x3 D44 => ?_) _ _ _ _ _ _ 
  exact pr_some
theorem g_X54_nameOf_pr {x0 : Int} {D : ga_D} : ga_pr D (g_X54_nameOf x0 D) := by
  unfold g_X54_nameOf
  refine pr_ite (fun n1_0 => ?_) (fun n1_0 => ?_)
  exact pr_some
  refine pr_ite (fun n1_1 => ?_) (fun n1_1 => ?_)
  exact pr_some
  refine pr_ite (fun n1_2 => ?_) (fun n1_2 => ?_)
  exact pr_some
  refine pr_ite (fun n1_3 => ?_) (fun n1_3 => ?_)
  exact pr_some
  refine pr_ite (fun n1_4 => ?_) (fun n1_4 => ?_)
  exact pr_some
  refine pr_ite (fun n1_5 => ?_) (fun n1_5 => ?_)
  exact pr_some
  exact pr_some
theorem g_X54_isAllowed_pr {x1 x2 x3 x4 x5 : Int} {D : ga_D} : ga_pr D (g_X54_isAllowed x1 x2 x3 x4 x5 D) := by
  unfold g_X54_isAllowed
  refine pr_ite (fun n1_0 => ?_) (fun n1_0 => ?_)
  refine pr_ck (fun ha45 => ?_)
  refine pr_ite (fun c48 => ?_) (fun c48 => ?_)
  exact pr_some
  refine pr_ite (fun c52 => ?_) (fun c52 => ?_)
  exact pr_some
  refine pr_ite (fun c58 => ?_) (fun c58 => ?_)
  exact pr_some
  refine pr_ite (fun c63 => ?_) (fun c63 => ?_)
  exact pr_some
  refine pr_ite (fun c70 => ?_) (fun c70 => ?_)
  exact pr_some
  exact pr_some
  refine pr_ite (fun n1_1 => ?_) (fun n1_1 => ?_)
  refine pr_bind (g_X54_isPart_pr) (fun r82 D82 => ?_)
  refine pr_ite (fun c85 => ?_) (fun c85 => ?_)
  exact pr_some
  refine pr_bind (g_X54_isPart_pr) (fun r92 D92 => ?_)
  refine pr_ite (fun c95 => ?_) (fun c95 => ?_)
  exact pr_some
  refine pr_ite (fun c101 => ?_) (fun c101 => ?_)
  exact pr_some
  refine pr_ck (fun ha120 => ?_)
  refine pr_ite (fun c121 => ?_) (fun c121 => ?_)
  exact pr_some
  exact pr_some
  refine pr_ite (fun n1_2 => ?_) (fun n1_2 => ?_)
  refine pr_bind (g_X54_isPart_pr) (fun r133 D133 => ?_)
  refine pr_ite (fun c136 => ?_) (fun c136 => ?_)
  exact pr_some
  refine pr_ite (fun c141 => ?_) (fun c141 => ?_)
  exact pr_some
  refine pr_ite (fun c148 => ?_) (fun c148 => ?_)
  exact pr_some
  refine pr_bind (g_X54_isPart_pr) (fun r155 D155 => ?_)
  refine pr_ite (fun c158 => ?_) (fun c158 => ?_)
  exact pr_some
  refine pr_ite (fun c164 => ?_) (fun c164 => ?_)
  exact pr_some
  refine pr_bind (g_X54_wayAt_pr) (fun r177 D177 => ?_)
  refine pr_ck (fun ha180 => ?_)
  refine pr_ite (fun c181 => ?_) (fun c181 => ?_)
  exact pr_some
  exact pr_some
  refine pr_ite (fun n1_3 => ?_) (fun n1_3 => ?_)
  refine pr_ck (fun ha195 => ?_)
  refine pr_ite (fun c198 => ?_) (fun c198 => ?_)
  exact pr_some
  refine pr_bind (g_X54_isPart_pr) (fun r204 D204 => ?_)
  refine pr_ite (fun c207 => ?_) (fun c207 => ?_)
  exact pr_some
  refine pr_bind (g_X54_isPart_pr) (fun r214 D214 => ?_)
  refine pr_ite (fun c217 => ?_) (fun c217 => ?_)
  exact pr_some
  refine pr_ite (fun c223 => ?_) (fun c223 => ?_)
  exact pr_some
  refine pr_ite (fun c228 => ?_) (fun c228 => ?_)
  exact pr_some
  refine pr_ite (fun c234 => ?_) (fun c234 => ?_)
  exact pr_some
  exact pr_some
  refine pr_ite (fun n1_4 => ?_) (fun n1_4 => ?_)
  refine pr_bind (g_X54_isPart_pr) (fun r246 D246 => ?_)
  refine pr_ite (fun c249 => ?_) (fun c249 => ?_)
  exact pr_some
  refine pr_ite (fun c254 => ?_) (fun c254 => ?_)
  exact pr_some
  refine pr_ite (fun c261 => ?_) (fun c261 => ?_)
  exact pr_some
  refine pr_ck (fun ha280 => ?_)
  refine pr_ite (fun c281 => ?_) (fun c281 => ?_)
  exact pr_some
  exact pr_some
  refine pr_ite (fun n1_5 => ?_) (fun n1_5 => ?_)
  refine pr_bind (g_X54_isPart_pr) (fun r293 D293 => ?_)
  refine pr_ite (fun c296 => ?_) (fun c296 => ?_)
  exact pr_some
  refine pr_ite (fun c301 => ?_) (fun c301 => ?_)
  exact pr_some
  refine pr_ite (fun c307 => ?_) (fun c307 => ?_)
  exact pr_some
  refine pr_ck (fun ha320 => ?_)
  refine pr_ite (fun c323 => ?_) (fun c323 => ?_)
  exact pr_some
  exact pr_some
  refine pr_bind (g_X54_isPart_pr) (fun r335 D335 => ?_)
  refine pr_ite (fun c338 => ?_) (fun c338 => ?_)
  exact pr_some
  refine pr_ite (fun c343 => ?_) (fun c343 => ?_)
  exact pr_some
  refine pr_ite (fun c349 => ?_) (fun c349 => ?_)
  exact pr_some
  exact pr_some
theorem g_X54_canBe_j68_pr  {k74 : ga_D → ga_S} {k23 : Int → Int → Int → Int → Int → Int → Int → Int → Int → ga_D → ga_S} (hk74 : ∀ (D : ga_D), ga_pr D (k74 D)) (hk23 : ∀ (x1 x2 x3 x4 x5 x6 x7 x8 x9 : Int) (D : ga_D), ga_pr D (k23 x1 x2 x3 x4 x5 x6 x7 x8 x9 D)) (x1 x2 x3 x4 x5 x6 x7 x8 x9 s0 s1 s2 s3 s4 : Int) (D : ga_D) : ga_pr D (g_X54_canBe_j68 x1 x2 x3 x4 x5 x6 x7 x8 x9 s0 s1 s2 s3 s4 D k74 k23) := by
  unfold g_X54_canBe_j68
  refine pr_bind (g_X54_isAllowed_pr) (fun r68 D68 => ?_)
  refine pr_ite (fun c71 => ?_) (fun c71 => ?_)
  refine pr_let (fun v76 => ?_)
  exact hk23 _ _ _ _ _ _ _ _ _ _ 
  exact hk74 _ 
theorem g_X54_canBe_j56_pr  {k74 : ga_D → ga_S} {k23 : Int → Int → Int → Int → Int → Int → Int → Int → Int → ga_D → ga_S} (hk74 : ∀ (D : ga_D), ga_pr D (k74 D)) (hk23 : ∀ (x1 x2 x3 x4 x5 x6 x7 x8 x9 : Int) (D : ga_D), ga_pr D (k23 x1 x2 x3 x4 x5 x6 x7 x8 x9 D)) (x1 x2 x3 x4 x5 x6 x7 x8 x9 s0 s1 s2 s3 : Int) (D : ga_D) : ga_pr D (g_X54_canBe_j56 x1 x2 x3 x4 x5 x6 x7 x8 x9 s0 s1 s2 s3 D k74 k23) := by
  unfold g_X54_canBe_j56
  refine pr_ite (fun c58 => ?_) (fun c58 => ?_)
  refine g_X54_canBe_j68_pr (fun D74 => ?_) (fun x1 x2 x3 x4 x5 x6 x7 x8 x9 D23 => ?_) _ _ _ _ _ _ _ _ _ _ _ _ _ _ _ 
  exact hk74 _ 
  exact hk23 _ _ _ _ _ _ _ _ _ _ 
  refine g_X54_canBe_j68_pr (fun D74 => ?_) (fun x1 x2 x3 x4 x5 x6 x7 x8 x9 D23 => ?_) _ _ _ _ _ _ _ _ _ _ _ _ _ _ _ 
  exact hk74 _ 
  exact hk23 _ _ _ _ _ _ _ _ _ _ 
theorem g_X54_canBe_j44_pr  {k74 : ga_D → ga_S} {k23 : Int → Int → Int → Int → Int → Int → Int → Int → Int → ga_D → ga_S} (hk74 : ∀ (D : ga_D), ga_pr D (k74 D)) (hk23 : ∀ (x1 x2 x3 x4 x5 x6 x7 x8 x9 : Int) (D : ga_D), ga_pr D (k23 x1 x2 x3 x4 x5 x6 x7 x8 x9 D)) (x1 x2 x3 x4 x5 x6 x7 x8 x9 s0 s1 s2 : Int) (D : ga_D) : ga_pr D (g_X54_canBe_j44 x1 x2 x3 x4 x5 x6 x7 x8 x9 s0 s1 s2 D k74 k23) := by
  unfold g_X54_canBe_j44
  refine pr_ite (fun c46 => ?_) (fun c46 => ?_)
  refine g_X54_canBe_j56_pr (fun D74 => ?_) (fun x1 x2 x3 x4 x5 x6 x7 x8 x9 D23 => ?_) _ _ _ _ _ _ _ _ _ _ _ _ _ _ 
  exact hk74 _ 
  exact hk23 _ _ _ _ _ _ _ _ _ _ 
  refine g_X54_canBe_j56_pr (fun D74 => ?_) (fun x1 x2 x3 x4 x5 x6 x7 x8 x9 D23 => ?_) _ _ _ _ _ _ _ _ _ _ _ _ _ _ 
  exact hk74 _ 
  exact hk23 _ _ _ _ _ _ _ _ _ _ 
theorem g_X54_canBe_l23_pr  {k74 : ga_D → ga_S} {k82 : Int → Int → Int → Int → Int → Int → Int → Int → ga_D → ga_S} (hk74 : ∀ (D : ga_D), ga_pr D (k74 D)) (hk82 : ∀ (x1 x2 x3 x4 x5 x6 x7 x8 : Int) (D : ga_D), ga_pr D (k82 x1 x2 x3 x4 x5 x6 x7 x8 D)) : ∀ (n : Nat) (x1 x2 x3 x4 x5 x6 x7 x8 x9 : Int) (D : ga_D), ga_pr D (g_X54_canBe_l23 n x1 x2 x3 x4 x5 x6 x7 x8 x9 D k74 k82) := by
  intro n
  induction n with
  | zero => intro x1 x2 x3 x4 x5 x6 x7 x8 x9 D; exact pr_none
  | succ n ih =>
    intro x1 x2 x3 x4 x5 x6 x7 x8 x9 D
    show ga_pr D (if 10 ≤ x9 then (k82 x1 x2 x3 x4 x5 x6 x7 x8 D) else (if x3 ≤ 0 then (g_X54_canBe_j44 x1 x2 x3 x4 x5 x6 x7 x8 x9 x7 x2 x1 D (fun D74 => k74 D74) (fun x1 x2 x3 x4 x5 x6 x7 x8 x9 D23 => g_X54_canBe_l23 n x1 x2 x3 x4 x5 x6 x7 x8 x9 D23 k74 k82)) else (g_X54_canBe_j44 x1 x2 x3 x4 x5 x6 x7 x8 x9 x4 x2 x1 D (fun D74 => k74 D74) (fun x1 x2 x3 x4 x5 x6 x7 x8 x9 D23 => g_X54_canBe_l23 n x1 x2 x3 x4 x5 x6 x7 x8 x9 D23 k74 k82))))
    refine pr_ite (fun c27 => ?_) (fun c27 => ?_)
    exact hk82 _ _ _ _ _ _ _ _ _ 
    refine pr_ite (fun c34 => ?_) (fun c34 => ?_)
    refine g_X54_canBe_j44_pr (fun D74 => ?_) (fun x1 x2 x3 x4 x5 x6 x7 x8 x9 D23 => ?_) _ _ _ _ _ _ _ _ _ _ _ _ _ 
    exact hk74 _ 
    exact ih _ _ _ _ _ _ _ _ _ _ 
    refine g_X54_canBe_j44_pr (fun D74 => ?_) (fun x1 x2 x3 x4 x5 x6 x7 x8 x9 D23 => ?_) _ _ _ _ _ _ _ _ _ _ _ _ _ 
    exact hk74 _ 
    exact ih _ _ _ _ _ _ _ _ _ _ 
theorem g_X54_canBe_l13_pr  {k74 : ga_D → ga_S} {k88 : Int → Int → Int → Int → Int → Int → Int → ga_D → ga_S} (hk74 : ∀ (D : ga_D), ga_pr D (k74 D)) (hk88 : ∀ (x1 x2 x3 x4 x5 x6 x7 : Int) (D : ga_D), ga_pr D (k88 x1 x2 x3 x4 x5 x6 x7 D)) : ∀ (n : Nat) (x1 x2 x3 x4 x5 x6 x7 x8 : Int) (D : ga_D), ga_pr D (g_X54_canBe_l13 n x1 x2 x3 x4 x5 x6 x7 x8 D k74 k88) := by
  intro n
  induction n with
  | zero => intro x1 x2 x3 x4 x5 x6 x7 x8 D; exact pr_none
  | succ n ih =>
    intro x1 x2 x3 x4 x5 x6 x7 x8 D
    show ga_pr D (if 10 ≤ x8 then (k88 x1 x2 x3 x4 x5 x6 x7 D) else (g_X54_canBe_l23 aw_fu x1 x2 x3 x4 x5 x6 x7 x8 0 D (fun D74 => k74 D74) (fun x1 x2 x3 x4 x5 x6 x7 x8 D82 => ga_let (aw_w32 (x8 + 1)) (fun v82 => g_X54_canBe_l13 n x1 x2 x3 x4 x5 x6 x7 v82 D82 k74 k88))))
    refine pr_ite (fun c17 => ?_) (fun c17 => ?_)
    exact hk88 _ _ _ _ _ _ _ _ 
    refine g_X54_canBe_l23_pr (fun D74 => ?_) (fun x1 x2 x3 x4 x5 x6 x7 x8 D82 => ?_) _ _ _ _ _ _ _ _ _ _ _ 
    exact hk74 _ 
    refine pr_let (fun v82 => ?_)
    exact ih _ _ _ _ _ _ _ _ _ 
theorem g_X54_canBe_l3_pr  {k74 : ga_D → ga_S} {k94 : ga_D → ga_S} (hk74 : ∀ (D : ga_D), ga_pr D (k74 D)) (hk94 : ∀ (D : ga_D), ga_pr D (k94 D)) : ∀ (n : Nat) (x1 x2 x3 x4 x5 x6 x7 : Int) (D : ga_D), ga_pr D (g_X54_canBe_l3 n x1 x2 x3 x4 x5 x6 x7 D k74 k94) := by
  intro n
  induction n with
  | zero => intro x1 x2 x3 x4 x5 x6 x7 D; exact pr_none
  | succ n ih =>
    intro x1 x2 x3 x4 x5 x6 x7 D
    show ga_pr D (if 10 ≤ x7 then (k94 D) else (g_X54_canBe_l13 aw_fu x1 x2 x3 x4 x5 x6 x7 0 D (fun D74 => k74 D74) (fun x1 x2 x3 x4 x5 x6 x7 D88 => ga_let (aw_w32 (x7 + 1)) (fun v88 => g_X54_canBe_l3 n x1 x2 x3 x4 x5 x6 v88 D88 k74 k94))))
    refine pr_ite (fun c7 => ?_) (fun c7 => ?_)
    exact hk94 _ 
    refine g_X54_canBe_l13_pr (fun D74 => ?_) (fun x1 x2 x3 x4 x5 x6 x7 D88 => ?_) _ _ _ _ _ _ _ _ _ _ 
    exact hk74 _ 
    refine pr_let (fun v88 => ?_)
    exact ih _ _ _ _ _ _ _ _ 
theorem g_X54_canBe_pr {x1 x2 x3 x4 x5 x6 : Int} {D : ga_D} : ga_pr D (g_X54_canBe x1 x2 x3 x4 x5 x6 D) := by
  unfold g_X54_canBe
  refine g_X54_canBe_l3_pr (fun D74 => ?_) (fun D94 => ?_) _ _ _ _ _ _ _ _ _ 
  exact pr_some
  exact pr_some
theorem g_X54_numbersOf_pr {x0 : Int} {D : ga_D} : ga_pr D (g_X54_numbersOf x0 D) := by
  unfold g_X54_numbersOf
  refine pr_ite (fun c2 => ?_) (fun c2 => ?_)
  exact pr_some
  refine pr_ite (fun c7 => ?_) (fun c7 => ?_)
  exact pr_some
  exact pr_some
theorem g_X54_numberOf_l17_pr  {k69 : Int → ga_D → ga_S} (hk69 : ∀ (x3 : Int) (D : ga_D), ga_pr D (k69 x3 D)) : ∀ (n : Nat) (x2 x3 x4 : Int) (D : ga_D), ga_pr D (g_X54_numberOf_l17 n x2 x3 x4 D k69) := by
  intro n
  induction n with
  | zero => intro x2 x3 x4 D; exact pr_none
  | succ n ih =>
    intro x2 x3 x4 D
    show ga_pr D (if x2 ≤ x4 then (k69 x3 D) else (if x3 < 0 then (k69 x3 D) else (ga_ck (0 ≤ x4 ∧ x4 < 2000) (ga_let (aw_w32 ((D 5261 x4) - 48)) (fun v37 => if v37 < 0 then (ga_let (aw_w32 (x4 + 1)) (fun v63 => g_X54_numberOf_l17 n x2 (-1) v63 D k69)) else (if v37 ≤ 9 then (ga_let (aw_w32 ((aw_w32 (10 * x3)) + v37)) (fun v62 => ga_let (aw_w32 (x4 + 1)) (fun v63 => g_X54_numberOf_l17 n x2 v62 v63 D k69))) else (ga_let (aw_w32 (x4 + 1)) (fun v63 => g_X54_numberOf_l17 n x2 (-1) v63 D k69))))))))
    refine pr_ite (fun c20 => ?_) (fun c20 => ?_)
    exact hk69 _ _ 
    refine pr_ite (fun c24 => ?_) (fun c24 => ?_)
    exact hk69 _ _ 
    refine pr_ck (fun ha33 => ?_)
    refine pr_let (fun v37 => ?_)
    refine pr_ite (fun c41 => ?_) (fun c41 => ?_)
    refine pr_let (fun v63 => ?_)
    exact ih _ _ _ _ 
    refine pr_ite (fun c48 => ?_) (fun c48 => ?_)
    refine pr_let (fun v62 => ?_)
    refine pr_let (fun v63 => ?_)
    exact ih _ _ _ _ 
    refine pr_let (fun v63 => ?_)
    exact ih _ _ _ _ 
theorem g_X54_numberOf_pr {x1 x2 : Int} {D : ga_D} : ga_pr D (g_X54_numberOf x1 x2 D) := by
  unfold g_X54_numberOf
  refine pr_ite (fun c5 => ?_) (fun c5 => ?_)
  refine g_X54_numberOf_l17_pr (fun x3 D69 => ?_) _ _ _ _ _ 
  exact pr_some
  refine g_X54_numberOf_l17_pr (fun x3 D69 => ?_) _ _ _ _ _ 
  exact pr_some
theorem g_X54_make_pr {x1 x2 x3 x4 x5 : Int} {D : ga_D} : ga_pr D (g_X54_make x1 x2 x3 x4 x5 D) := by
  unfold g_X54_make
  refine pr_ite (fun n1_0 => ?_) (fun n1_0 => ?_)
  refine pr_ck (fun ha53 => ?_)
  refine pr_ck (fun ha56 => ?_)
  refine pr_upd (ga_Pn K_5252 rfl) (fun D56 => ?_)
  refine pr_ck (fun ha70 => ?_)
  refine pr_ck (fun ha74 => ?_)
  refine pr_upd (ga_Pn K_5253 rfl) (fun D74 => ?_)
  refine pr_ck (fun ha81 => ?_)
  refine pr_ck (fun ha84 => ?_)
  refine pr_upd (ga_Pn K_5251 rfl) (fun D84 => ?_)
  exact pr_some
  refine pr_ite (fun n1_1 => ?_) (fun n1_1 => ?_)
  refine pr_ck (fun ha105 => ?_)
  refine pr_upd (ga_Pn K_5254 rfl) (fun D105 => ?_)
  exact pr_some
  refine pr_ite (fun n1_2 => ?_) (fun n1_2 => ?_)
  refine pr_bind (g_X54_wayAt_pr) (fun r119 D119 => ?_)
  refine pr_ck (fun ha123 => ?_)
  refine pr_upd (ga_Pn K_5255 rfl) (fun D123 => ?_)
  exact pr_some
  refine pr_ite (fun n1_3 => ?_) (fun n1_3 => ?_)
  refine pr_ck (fun ha141 => ?_)
  refine pr_ck (fun ha145 => ?_)
  refine pr_upd (ga_Pn K_5257 rfl) (fun D145 => ?_)
  refine pr_ck (fun ha160 => ?_)
  refine pr_ck (fun ha167 => ?_)
  refine pr_upd (ga_Pn K_5257 rfl) (fun D167 => ?_)
  refine pr_ck (fun ha182 => ?_)
  refine pr_ck (fun ha189 => ?_)
  refine pr_upd (ga_Pn K_5257 rfl) (fun D189 => ?_)
  refine pr_ck (fun ha196 => ?_)
  refine pr_ck (fun ha199 => ?_)
  refine pr_upd (ga_Pn K_5256 rfl) (fun D199 => ?_)
  exact pr_some
  refine pr_ite (fun n1_4 => ?_) (fun n1_4 => ?_)
  refine pr_ck (fun ha220 => ?_)
  refine pr_upd (ga_Pn K_5258 rfl) (fun D220 => ?_)
  exact pr_some
  refine pr_ite (fun n1_5 => ?_) (fun n1_5 => ?_)
  refine pr_ck (fun ha236 => ?_)
  refine pr_upd (ga_Pn K_5259 rfl) (fun D236 => ?_)
  exact pr_some
  refine pr_ck (fun ha252 => ?_)
  refine pr_upd (ga_Pn K_5260 rfl) (fun D252 => ?_)
  exact pr_some
theorem g_X54_readSentence_l22_pr  {k45 : Int → Int → ga_D → ga_S} (hk45 : ∀ (x1 x4 : Int) (D : ga_D), ga_pr D (k45 x1 x4 D)) : ∀ (n : Nat) (x1 x2 x4 : Int) (D : ga_D), ga_pr D (g_X54_readSentence_l22 n x1 x2 x4 D k45) := by
  intro n
  induction n with
  | zero => intro x1 x2 x4 D; exact pr_none
  | succ n ih =>
    intro x1 x2 x4 D
    show ga_pr D (if 7 ≤ x4 then (k45 x1 x4 D) else (ga_bind (g_X54_nameOf x4 D) (fun r31 D31 => if r31 = x2 then (k45 x1 x4 D31) else (ga_let (aw_w32 (x4 + 1)) (fun v39 => g_X54_readSentence_l22 n x1 x2 v39 D31 k45)))))
    refine pr_ite (fun c26 => ?_) (fun c26 => ?_)
    exact hk45 _ _ _ 
    refine pr_bind (g_X54_nameOf_pr) (fun r31 D31 => ?_)
    refine pr_ite (fun c36 => ?_) (fun c36 => ?_)
    exact hk45 _ _ _ 
    refine pr_let (fun v39 => ?_)
    exact ih _ _ _ _ 
theorem g_X54_readSentence_j129_pr  {k172 : ga_D → ga_S} {k80 : Int → Int → ga_D → ga_S} (hk172 : ∀ (D : ga_D), ga_pr D (k172 D)) (hk80 : ∀ (x4 x5 : Int) (D : ga_D), ga_pr D (k80 x4 x5 D)) (x1 x4 x5 s0 s1 s2 : Int) (D : ga_D) : ga_pr D (g_X54_readSentence_j129 x1 x4 x5 s0 s1 s2 D k172 k80) := by
  unfold g_X54_readSentence_j129
  refine pr_ck (fun ha129_0 => ?_)
  refine pr_ck (fun hg129_1 => ?_)
  refine pr_ck (fun ha129 => ?_)
  refine pr_upd (ga_Pn (ga_kp ha129_0) rfl) (fun D129 => ?_)
  refine pr_ck (fun ha136 => ?_)
  refine pr_ite (fun c137 => ?_) (fun c137 => ?_)
  exact hk172 _ 
  refine pr_ck (fun ha153 => ?_)
  refine pr_ck (fun ha159 => ?_)
  refine pr_ck (fun ha165 => ?_)
  refine pr_bind (g_X54_canBe_pr) (fun r166 D166 => ?_)
  refine pr_ite (fun c169 => ?_) (fun c169 => ?_)
  refine pr_bind (g_X54_wordBegin_pr) (fun r177 D177 => ?_)
  refine pr_upd (ga_Pn K_5250 rfl) (fun D180 => ?_)
  refine pr_let (fun v183 => ?_)
  exact hk80 _ _ _ 
  exact hk172 _ 
theorem g_X54_readSentence_l80_pr  {k172 : ga_D → ga_S} {k189 : Int → ga_D → ga_S} (hk172 : ∀ (D : ga_D), ga_pr D (k172 D)) (hk189 : ∀ (x4 : Int) (D : ga_D), ga_pr D (k189 x4 D)) : ∀ (n : Nat) (x4 x5 : Int) (D : ga_D), ga_pr D (g_X54_readSentence_l80 n x4 x5 D k172 k189) := by
  intro n
  induction n with
  | zero => intro x4 x5 D; exact pr_none
  | succ n ih =>
    intro x4 x5 D
    show ga_pr D (ga_bind (g_X54_numbersOf x4 D) (fun r84 D84 => if r84 ≤ x5 then (k189 x4 D84) else (ga_bind (g_X54_wordEnd (D84 5250 14) D84) (fun r95 D95 => if D95 5250 11 ≤ D95 5250 14 then (g_X54_readSentence_j129 r95 x4 x5 (-1) x5 5262 D95 (fun D172 => k172 D172) (fun x4 x5 D80 => g_X54_readSentence_l80 n x4 x5 D80 k172 k189)) else (ga_bind (g_X54_numberOf (D95 5250 14) r95 D95) (fun r122 D122 => g_X54_readSentence_j129 r95 x4 x5 r122 x5 5262 D122 (fun D172 => k172 D172) (fun x4 x5 D80 => g_X54_readSentence_l80 n x4 x5 D80 k172 k189)))))))
    refine pr_bind (g_X54_numbersOf_pr) (fun r84 D84 => ?_)
    refine pr_ite (fun c87 => ?_) (fun c87 => ?_)
    exact hk189 _ _ 
    refine pr_bind (g_X54_wordEnd_pr) (fun r95 D95 => ?_)
    refine pr_ite (fun c113 => ?_) (fun c113 => ?_)
    refine g_X54_readSentence_j129_pr (fun D172 => ?_) (fun x4 x5 D80 => ?_) _ _ _ _ _ _ _ 
    exact hk172 _ 
    exact ih _ _ _ 
    refine pr_bind (g_X54_numberOf_pr) (fun r122 D122 => ?_)
    refine g_X54_readSentence_j129_pr (fun D172 => ?_) (fun x4 x5 D80 => ?_) _ _ _ _ _ _ _ 
    exact hk172 _ 
    exact ih _ _ _ 
theorem g_X54_readSentence_j45_pr  (x1 x4 : Int) (D : ga_D) : ga_pr D (g_X54_readSentence_j45 x1 x4 D) := by
  unfold g_X54_readSentence_j45
  refine pr_ite (fun c49 => ?_) (fun c49 => ?_)
  exact pr_some
  refine pr_bind (g_X54_canBe_pr) (fun r60 D60 => ?_)
  refine pr_ite (fun c63 => ?_) (fun c63 => ?_)
  refine pr_bind (g_X54_wordBegin_pr) (fun r71 D71 => ?_)
  refine pr_upd (ga_Pn K_5250 rfl) (fun D74 => ?_)
  refine g_X54_readSentence_l80_pr (fun D172 => ?_) (fun x4 D189 => ?_) _ _ _ _ 
  exact pr_some
  refine pr_ck (fun ha198 => ?_)
  refine pr_ck (fun ha204 => ?_)
  refine pr_ck (fun ha210 => ?_)
  refine pr_bind (g_X54_make_pr) (fun r211 D211 => ?_)
  exact pr_some
  exact pr_some
theorem g_X54_readSentence_pr {D : ga_D} : ga_pr D (g_X54_readSentence D) := by
  unfold g_X54_readSentence
  refine pr_bind (g_X54_wordEnd_pr) (fun r5 D5 => ?_)
  refine pr_bind (g_X54_wordOf_pr) (fun r15 D15 => ?_)
  refine g_X54_readSentence_l22_pr (fun x1 x4 D45 => ?_) _ _ _ _ _ 
  refine g_X54_readSentence_j45_pr _ _ _ 
theorem g_X54_take_l26_pr  {k53 : ga_D → ga_S} (hk53 : ∀ (D : ga_D), ga_pr D (k53 D)) : ∀ (n : Nat) (x1 : Int) (D : ga_D), ga_pr D (g_X54_take_l26 n x1 D k53) := by
  intro n
  induction n with
  | zero => intro x1 D; exact pr_none
  | succ n ih =>
    intro x1 D
    show ga_pr D (if 100 ≤ x1 then (k53 D) else (ga_ck (0 ≤ aw_w32 (100 + x1) ∧ aw_w32 (100 + x1) < 200) (ga_ck (0 ≤ x1 ∧ x1 < 200 ∧ 0 ≤ D 5254 (aw_w32 (100 + x1)) ∧ D 5254 (aw_w32 (100 + x1)) < 2) (ga_let (ga_set D 5254 x1 (D 5254 (aw_w32 (100 + x1)))) (fun D46 => ga_let (aw_w32 (x1 + 1)) (fun v47 => g_X54_take_l26 n v47 D46 k53))))))
    refine pr_ite (fun c29 => ?_) (fun c29 => ?_)
    exact hk53 _ 
    refine pr_ck (fun ha45 => ?_)
    refine pr_ck (fun ha46 => ?_)
    refine pr_upd (ga_Pn K_5254 rfl) (fun D46 => ?_)
    refine pr_let (fun v47 => ?_)
    exact ih _ _ 
theorem g_X54_take_l55_pr  {k84 : ga_D → ga_S} (hk84 : ∀ (D : ga_D), ga_pr D (k84 D)) : ∀ (n : Nat) (x1 : Int) (D : ga_D), ga_pr D (g_X54_take_l55 n x1 D k84) := by
  intro n
  induction n with
  | zero => intro x1 D; exact pr_none
  | succ n ih =>
    intro x1 D
    show ga_pr D (if 600 ≤ x1 then (k84 D) else (ga_ck (0 ≤ aw_w32 (600 + x1) ∧ aw_w32 (600 + x1) < 1200) (ga_ck (0 ≤ x1 ∧ x1 < 1200 ∧ 0 ≤ D 5255 (aw_w32 (600 + x1)) ∧ D 5255 (aw_w32 (600 + x1)) < 2) (ga_let (ga_set D 5255 x1 (D 5255 (aw_w32 (600 + x1)))) (fun D77 => ga_let (aw_w32 (x1 + 1)) (fun v78 => g_X54_take_l55 n v78 D77 k84))))))
    refine pr_ite (fun c59 => ?_) (fun c59 => ?_)
    exact hk84 _ 
    refine pr_ck (fun ha76 => ?_)
    refine pr_ck (fun ha77 => ?_)
    refine pr_upd (ga_Pn K_5255 rfl) (fun D77 => ?_)
    refine pr_let (fun v78 => ?_)
    exact ih _ _ 
theorem g_X54_take_l86_pr  {k113 : ga_D → ga_S} (hk113 : ∀ (D : ga_D), ga_pr D (k113 D)) : ∀ (n : Nat) (x1 : Int) (D : ga_D), ga_pr D (g_X54_take_l86 n x1 D k113) := by
  intro n
  induction n with
  | zero => intro x1 D; exact pr_none
  | succ n ih =>
    intro x1 D
    show ga_pr D (if 80 ≤ x1 then (k113 D) else (ga_ck (0 ≤ aw_w32 (80 + x1) ∧ aw_w32 (80 + x1) < 160) (ga_ck (0 ≤ x1 ∧ x1 < 160 ∧ 0 ≤ D 5258 (aw_w32 (80 + x1)) ∧ D 5258 (aw_w32 (80 + x1)) < 2) (ga_let (ga_set D 5258 x1 (D 5258 (aw_w32 (80 + x1)))) (fun D106 => ga_let (aw_w32 (x1 + 1)) (fun v107 => g_X54_take_l86 n v107 D106 k113))))))
    refine pr_ite (fun c89 => ?_) (fun c89 => ?_)
    exact hk113 _ 
    refine pr_ck (fun ha105 => ?_)
    refine pr_ck (fun ha106 => ?_)
    refine pr_upd (ga_Pn K_5258 rfl) (fun D106 => ?_)
    refine pr_let (fun v107 => ?_)
    exact ih _ _ 
theorem g_X54_take_l115_pr  {k187 : ga_D → ga_S} (hk187 : ∀ (D : ga_D), ga_pr D (k187 D)) : ∀ (n : Nat) (x1 : Int) (D : ga_D), ga_pr D (g_X54_take_l115 n x1 D k187) := by
  intro n
  induction n with
  | zero => intro x1 D; exact pr_none
  | succ n ih =>
    intro x1 D
    show ga_pr D (if 10 ≤ x1 then (k187 D) else (ga_ck (0 ≤ aw_w32 (10 + x1) ∧ aw_w32 (10 + x1) < 20) (ga_ck (0 ≤ x1 ∧ x1 < 20) (ga_let (ga_set D 5252 x1 (D 5252 (aw_w32 (10 + x1)))) (fun D135 => ga_ck (0 ≤ aw_w32 (10 + x1) ∧ aw_w32 (10 + x1) < 20) (ga_ck (0 ≤ x1 ∧ x1 < 20) (ga_let (ga_set D135 5253 x1 (D135 5253 (aw_w32 (10 + x1)))) (fun D150 => ga_ck (0 ≤ aw_w32 (10 + x1) ∧ aw_w32 (10 + x1) < 20) (ga_ck (0 ≤ x1 ∧ x1 < 20) (ga_let (ga_set D150 5259 x1 (D150 5259 (aw_w32 (10 + x1)))) (fun D165 => ga_ck (0 ≤ aw_w32 (10 + x1) ∧ aw_w32 (10 + x1) < 20) (ga_ck (0 ≤ x1 ∧ x1 < 20) (ga_let (ga_set D165 5260 x1 (D165 5260 (aw_w32 (10 + x1)))) (fun D180 => ga_let (aw_w32 (x1 + 1)) (fun v181 => g_X54_take_l115 n v181 D180 k187)))))))))))))))
    refine pr_ite (fun c118 => ?_) (fun c118 => ?_)
    exact hk187 _ 
    refine pr_ck (fun ha134 => ?_)
    refine pr_ck (fun ha135 => ?_)
    refine pr_upd (ga_Pn K_5252 rfl) (fun D135 => ?_)
    refine pr_ck (fun ha149 => ?_)
    refine pr_ck (fun ha150 => ?_)
    refine pr_upd (ga_Pn K_5253 rfl) (fun D150 => ?_)
    refine pr_ck (fun ha164 => ?_)
    refine pr_ck (fun ha165 => ?_)
    refine pr_upd (ga_Pn K_5259 rfl) (fun D165 => ?_)
    refine pr_ck (fun ha179 => ?_)
    refine pr_ck (fun ha180 => ?_)
    refine pr_upd (ga_Pn K_5260 rfl) (fun D180 => ?_)
    refine pr_let (fun v181 => ?_)
    exact ih _ _ 
theorem g_X54_take_l189_pr  {k216 : ga_D → ga_S} (hk216 : ∀ (D : ga_D), ga_pr D (k216 D)) : ∀ (n : Nat) (x1 : Int) (D : ga_D), ga_pr D (g_X54_take_l189 n x1 D k216) := by
  intro n
  induction n with
  | zero => intro x1 D; exact pr_none
  | succ n ih =>
    intro x1 D
    show ga_pr D (if 60 ≤ x1 then (k216 D) else (ga_ck (0 ≤ aw_w32 (60 + x1) ∧ aw_w32 (60 + x1) < 120) (ga_ck (0 ≤ x1 ∧ x1 < 120) (ga_let (ga_set D 5257 x1 (D 5257 (aw_w32 (60 + x1)))) (fun D209 => ga_let (aw_w32 (x1 + 1)) (fun v210 => g_X54_take_l189 n v210 D209 k216))))))
    refine pr_ite (fun c192 => ?_) (fun c192 => ?_)
    exact hk216 _ 
    refine pr_ck (fun ha208 => ?_)
    refine pr_ck (fun ha209 => ?_)
    refine pr_upd (ga_Pn K_5257 rfl) (fun D209 => ?_)
    refine pr_let (fun v210 => ?_)
    exact ih _ _ 
theorem g_X54_take_pr {D : ga_D} : ga_pr D (g_X54_take D) := by
  unfold g_X54_take
  refine pr_ck (fun ha10 => ?_)
  refine pr_ck (fun ha11 => ?_)
  refine pr_upd (ga_Pn K_5251 rfl) (fun D11 => ?_)
  refine pr_ck (fun ha22 => ?_)
  refine pr_ck (fun ha23 => ?_)
  refine pr_upd (ga_Pn K_5256 rfl) (fun D23 => ?_)
  refine g_X54_take_l26_pr (fun D53 => ?_) _ _ _ 
  refine g_X54_take_l55_pr (fun D84 => ?_) _ _ _ 
  refine g_X54_take_l86_pr (fun D113 => ?_) _ _ _ 
  refine g_X54_take_l115_pr (fun D187 => ?_) _ _ _ 
  refine g_X54_take_l189_pr (fun D216 => ?_) _ _ _ 
  exact pr_some
theorem g_X54_read_l21_pr  {k44 : Int → ga_D → ga_S} (hk44 : ∀ (x1 : Int) (D : ga_D), ga_pr D (k44 x1 D)) : ∀ (n : Nat) (x1 : Int) (D : ga_D), ga_pr D (g_X54_read_l21 n x1 D k44) := by
  intro n
  induction n with
  | zero => intro x1 D; exact pr_none
  | succ n ih =>
    intro x1 D
    show ga_pr D (if x1 = 0 then (k44 x1 D) else (if D 5250 11 ≤ D 5250 14 then (k44 x1 D) else (ga_bind (g_X54_readSentence D) (fun r37 D37 => g_X54_read_l21 n r37 D37 k44))))
    refine pr_ite (fun c22 => ?_) (fun c22 => ?_)
    exact hk44 _ _ 
    refine pr_ite (fun c33 => ?_) (fun c33 => ?_)
    exact hk44 _ _ 
    refine pr_bind (g_X54_readSentence_pr) (fun r37 D37 => ?_)
    exact ih _ _ 
theorem g_X54_read_j44_pr  (x1 : Int) (D : ga_D) : ga_pr D (g_X54_read_j44 x1 D) := by
  unfold g_X54_read_j44
  refine pr_upd (ga_Pn K_5250 rfl) (fun D46 => ?_)
  refine pr_ite (fun c50 => ?_) (fun c50 => ?_)
  refine pr_bind (g_X54_take_pr) (fun r61 D61 => ?_)
  refine pr_ck (fun ha69 => ?_)
  exact pr_some
  exact pr_some
theorem g_X54_read_pr {D : ga_D} : ga_pr D (g_X54_read D) := by
  unfold g_X54_read
  refine pr_upd (ga_Pn K_5250 rfl) (fun D2 => ?_)
  refine pr_bind (g_X54_clear_pr) (fun r7 D7 => ?_)
  refine pr_bind (g_X54_wordBegin_pr) (fun r13 D13 => ?_)
  refine pr_upd (ga_Pn K_5250 rfl) (fun D16 => ?_)
  refine g_X54_read_l21_pr (fun x1 D44 => ?_) _ _ _ 
  refine g_X54_read_j44_pr _ _ 
theorem g_X54_part_pr {x1 x2 : Int} {D : ga_D} : ga_pr D (g_X54_part x1 x2 D) := by
  unfold g_X54_part
  refine pr_upd (ga_Pn K_5250 rfl) (fun D2 => ?_)
  refine pr_ite (fun c8 => ?_) (fun c8 => ?_)
  exact pr_some
  refine pr_ite (fun c16 => ?_) (fun c16 => ?_)
  exact pr_some
  refine pr_bind (g_X54_isAllowed_pr) (fun r26 D26 => ?_)
  refine pr_ite (fun c29 => ?_) (fun c29 => ?_)
  refine pr_bind (g_X54_make_pr) (fun r41 D41 => ?_)
  refine pr_ck (fun ha49 => ?_)
  exact pr_some
  exact pr_some
theorem g_X54_fasten_pr {x1 x2 x3 : Int} {D : ga_D} : ga_pr D (g_X54_fasten x1 x2 x3 D) := by
  unfold g_X54_fasten
  refine pr_upd (ga_Pn K_5250 rfl) (fun D2 => ?_)
  refine pr_bind (g_X54_isAllowed_pr) (fun r11 D11 => ?_)
  refine pr_ite (fun c14 => ?_) (fun c14 => ?_)
  refine pr_bind (g_X54_make_pr) (fun r25 D25 => ?_)
  refine pr_ck (fun ha33 => ?_)
  exact pr_some
  exact pr_some
theorem g_X54_tell_pr {x1 x2 x3 x4 : Int} {D : ga_D} : ga_pr D (g_X54_tell x1 x2 x3 x4 D) := by
  unfold g_X54_tell
  refine pr_bind (g_X54_isAllowed_pr) (fun r7 D7 => ?_)
  refine pr_ite (fun c14 => ?_) (fun c14 => ?_)
  refine pr_ck (fun hr29 => ?_)
  exact pr_some
  refine pr_bind (g_X54_make_pr) (fun r24 D24 => ?_)
  refine pr_ck (fun hr29 => ?_)
  exact pr_some
theorem g_X54_cover_pr {x1 x2 : Int} {D : ga_D} : ga_pr D (g_X54_cover x1 x2 D) := by
  unfold g_X54_cover
  refine pr_upd (ga_Pn K_5250 rfl) (fun D2 => ?_)
  refine pr_bind (g_X54_tell_pr) (fun r10 D10 => ?_)
  refine pr_ck (fun hr13 => ?_)
  exact pr_some
theorem g_X54_way_j34_pr  (x1 x2 x3 s0 : Int) (D : ga_D) : ga_pr D (g_X54_way_j34 x1 x2 x3 s0 D) := by
  unfold g_X54_way_j34
  refine pr_upd (ga_Pn K_5250 rfl) (fun D34 => ?_)
  refine pr_ite (fun c41 => ?_) (fun c41 => ?_)
  exact pr_some
  refine pr_bind (g_X54_tell_pr) (fun r49 D49 => ?_)
  refine pr_ite (fun c52 => ?_) (fun c52 => ?_)
  exact pr_some
  exact pr_some
theorem g_X54_way_j33_pr  (x1 x2 x3 : Int) (D : ga_D) : ga_pr D (g_X54_way_j33 x1 x2 x3 D) := by
  unfold g_X54_way_j33
  refine g_X54_way_j34_pr _ _ _ _ _ 
theorem g_X54_way_pr {x1 x2 x3 : Int} {D : ga_D} : ga_pr D (g_X54_way x1 x2 x3 D) := by
  unfold g_X54_way
  refine pr_bind (g_X54_isPart_pr) (fun r4 D4 => ?_)
  refine pr_ite (fun c7 => ?_) (fun c7 => ?_)
  refine g_X54_way_j33_pr _ _ _ _ 
  refine pr_bind (g_X54_isPart_pr) (fun r13 D13 => ?_)
  refine pr_ite (fun c16 => ?_) (fun c16 => ?_)
  refine g_X54_way_j33_pr _ _ _ _ 
  refine pr_ite (fun c20 => ?_) (fun c20 => ?_)
  refine g_X54_way_j33_pr _ _ _ _ 
  refine pr_ite (fun c26 => ?_) (fun c26 => ?_)
  refine g_X54_way_j33_pr _ _ _ _ 
  refine g_X54_way_j34_pr _ _ _ _ _ 
theorem g_X54_option_pr {x1 x2 : Int} {D : ga_D} : ga_pr D (g_X54_option x1 x2 D) := by
  unfold g_X54_option
  refine pr_upd (ga_Pn K_5250 rfl) (fun D2 => ?_)
  refine pr_bind (g_X54_tell_pr) (fun r10 D10 => ?_)
  refine pr_ck (fun hr13 => ?_)
  exact pr_some
theorem g_X54_sizeOf_l4_pr  {k38 : Int → ga_D → ga_S} (hk38 : ∀ (x2 : Int) (D : ga_D), ga_pr D (k38 x2 D)) : ∀ (n : Nat) (x1 x2 x3 : Int) (D : ga_D), ga_pr D (g_X54_sizeOf_l4 n x1 x2 x3 D k38) := by
  intro n
  induction n with
  | zero => intro x1 x2 x3 D; exact pr_none
  | succ n ih =>
    intro x1 x2 x3 D
    show ga_pr D (ga_ck ((0 : Int) ≤ 0 ∧ 0 < 2) (if D 5251 0 ≤ x3 then (k38 x2 D) else (ga_ck (0 ≤ x3 ∧ x3 < 20) (if D 5259 x3 ≠ x1 then (ga_let (aw_w32 (x2 + 0)) (fun v31 => ga_let (aw_w32 (x3 + 1)) (fun v32 => g_X54_sizeOf_l4 n x1 v31 v32 D k38))) else (ga_let (aw_w32 (x2 + 1)) (fun v31 => ga_let (aw_w32 (x3 + 1)) (fun v32 => g_X54_sizeOf_l4 n x1 v31 v32 D k38)))))))
    refine pr_ck (fun ha10 => ?_)
    refine pr_ite (fun c11 => ?_) (fun c11 => ?_)
    exact hk38 _ _ 
    refine pr_ck (fun ha20 => ?_)
    refine pr_ite (fun c22 => ?_) (fun c22 => ?_)
    refine pr_let (fun v31 => ?_)
    refine pr_let (fun v32 => ?_)
    exact ih _ _ _ _ 
    refine pr_let (fun v31 => ?_)
    refine pr_let (fun v32 => ?_)
    exact ih _ _ _ _ 
theorem g_X54_sizeOf_pr {x1 : Int} {D : ga_D} : ga_pr D (g_X54_sizeOf x1 D) := by
  unfold g_X54_sizeOf
  refine g_X54_sizeOf_l4_pr (fun x2 D38 => ?_) _ _ _ _ _ 
  exact pr_some
theorem g_X54_orderOf_l4_pr  {k38 : Int → ga_D → ga_S} (hk38 : ∀ (x2 : Int) (D : ga_D), ga_pr D (k38 x2 D)) : ∀ (n : Nat) (x1 x2 x3 : Int) (D : ga_D), ga_pr D (g_X54_orderOf_l4 n x1 x2 x3 D k38) := by
  intro n
  induction n with
  | zero => intro x1 x2 x3 D; exact pr_none
  | succ n ih =>
    intro x1 x2 x3 D
    show ga_pr D (if x1 ≤ x3 then (k38 x2 D) else (ga_ck (0 ≤ x3 ∧ x3 < 20) (ga_ck (0 ≤ x1 ∧ x1 < 20) (if D 5259 x3 ≠ D 5259 x1 then (ga_let (aw_w32 (x2 + 0)) (fun v31 => ga_let (aw_w32 (x3 + 1)) (fun v32 => g_X54_orderOf_l4 n x1 v31 v32 D k38))) else (ga_let (aw_w32 (x2 + 1)) (fun v31 => ga_let (aw_w32 (x3 + 1)) (fun v32 => g_X54_orderOf_l4 n x1 v31 v32 D k38)))))))
    refine pr_ite (fun c6 => ?_) (fun c6 => ?_)
    exact hk38 _ _ 
    refine pr_ck (fun ha15 => ?_)
    refine pr_ck (fun ha21 => ?_)
    refine pr_ite (fun c22 => ?_) (fun c22 => ?_)
    refine pr_let (fun v31 => ?_)
    refine pr_let (fun v32 => ?_)
    exact ih _ _ _ _ 
    refine pr_let (fun v31 => ?_)
    refine pr_let (fun v32 => ?_)
    exact ih _ _ _ _ 
theorem g_X54_orderOf_pr {x1 : Int} {D : ga_D} : ga_pr D (g_X54_orderOf x1 D) := by
  unfold g_X54_orderOf
  refine g_X54_orderOf_l4_pr (fun x2 D38 => ?_) _ _ _ _ _ 
  exact pr_some
theorem g_X54_isIn_l23_pr  {k57 : Int → Int → Int → ga_D → ga_S} (hk57 : ∀ (x1 x2 x3 : Int) (D : ga_D), ga_pr D (k57 x1 x2 x3 D)) : ∀ (n : Nat) (x1 x2 x3 x4 : Int) (D : ga_D), ga_pr D (g_X54_isIn_l23 n x1 x2 x3 x4 D k57) := by
  intro n
  induction n with
  | zero => intro x1 x2 x3 x4 D; exact pr_none
  | succ n ih =>
    intro x1 x2 x3 x4 D
    show ga_pr D (if 4 ≤ x4 then (k57 x1 x2 x3 D) else (ga_bind (g_X54_sizeOf x4 D) (fun r33 D33 => if r33 ≤ 0 then (ga_let (aw_w32 (x3 * 1)) (fun v50 => ga_let (aw_w32 (x4 + 1)) (fun v51 => g_X54_isIn_l23 n x1 x2 v50 v51 D33 k57))) else (ga_bind (g_X54_sizeOf x4 D33) (fun r42 D42 => ga_let (aw_w32 (x3 * r42)) (fun v50 => ga_let (aw_w32 (x4 + 1)) (fun v51 => g_X54_isIn_l23 n x1 x2 v50 v51 D42 k57)))))))
    refine pr_ite (fun c26 => ?_) (fun c26 => ?_)
    exact hk57 _ _ _ _ 
    refine pr_bind (g_X54_sizeOf_pr) (fun r33 D33 => ?_)
    refine pr_ite (fun c36 => ?_) (fun c36 => ?_)
    refine pr_let (fun v50 => ?_)
    refine pr_let (fun v51 => ?_)
    exact ih _ _ _ _ _ 
    refine pr_bind (g_X54_sizeOf_pr) (fun r42 D42 => ?_)
    refine pr_let (fun v50 => ?_)
    refine pr_let (fun v51 => ?_)
    exact ih _ _ _ _ _ 
theorem g_X54_isIn_pr {x1 x2 : Int} {D : ga_D} : ga_pr D (g_X54_isIn x1 x2 D) := by
  unfold g_X54_isIn
  refine pr_ck (fun ha5 => ?_)
  refine pr_ite (fun c6 => ?_) (fun c6 => ?_)
  refine pr_ck (fun ha18 => ?_)
  refine pr_let (fun v21 => ?_)
  refine g_X54_isIn_l23_pr (fun x1 x2 x3 D57 => ?_) _ _ _ _ _ _ 
  refine pr_ck (fun hz59 => ?_)
  refine pr_ck (fun ha66 => ?_)
  refine pr_bind (g_X54_sizeOf_pr) (fun r67 D67 => ?_)
  refine pr_ck (fun hz70 => ?_)
  refine pr_bind (g_X54_orderOf_pr) (fun r73 D73 => ?_)
  refine pr_ite (fun c76 => ?_) (fun c76 => ?_)
  exact pr_some
  exact pr_some
  exact pr_some
theorem g_X54_family_l10_pr  {k44 : Int → Int → Int → ga_D → ga_S} (hk44 : ∀ (x1 x2 x3 : Int) (D : ga_D), ga_pr D (k44 x1 x2 x3 D)) : ∀ (n : Nat) (x1 x2 x3 x4 : Int) (D : ga_D), ga_pr D (g_X54_family_l10 n x1 x2 x3 x4 D k44) := by
  intro n
  induction n with
  | zero => intro x1 x2 x3 x4 D; exact pr_none
  | succ n ih =>
    intro x1 x2 x3 x4 D
    show ga_pr D (if 4 ≤ x4 then (k44 x1 x2 x3 D) else (ga_bind (g_X54_sizeOf x4 D) (fun r20 D20 => if r20 ≤ 0 then (ga_let (aw_w32 (x3 * 1)) (fun v37 => ga_let (aw_w32 (x4 + 1)) (fun v38 => g_X54_family_l10 n x1 x2 v37 v38 D20 k44))) else (ga_bind (g_X54_sizeOf x4 D20) (fun r29 D29 => ga_let (aw_w32 (x3 * r29)) (fun v37 => ga_let (aw_w32 (x4 + 1)) (fun v38 => g_X54_family_l10 n x1 x2 v37 v38 D29 k44)))))))
    refine pr_ite (fun c13 => ?_) (fun c13 => ?_)
    exact hk44 _ _ _ _ 
    refine pr_bind (g_X54_sizeOf_pr) (fun r20 D20 => ?_)
    refine pr_ite (fun c23 => ?_) (fun c23 => ?_)
    refine pr_let (fun v37 => ?_)
    refine pr_let (fun v38 => ?_)
    exact ih _ _ _ _ _ 
    refine pr_bind (g_X54_sizeOf_pr) (fun r29 D29 => ?_)
    refine pr_let (fun v37 => ?_)
    refine pr_let (fun v38 => ?_)
    exact ih _ _ _ _ _ 
theorem g_X54_family_l61_pr  {k88 : Int → ga_D → ga_S} {k100 : ga_D → ga_S} (hk88 : ∀ (x5 : Int) (D : ga_D), ga_pr D (k88 x5 D)) (hk100 : ∀ (D : ga_D), ga_pr D (k100 D)) : ∀ (n : Nat) (x1 x2 x4 x5 : Int) (D : ga_D), ga_pr D (g_X54_family_l61 n x1 x2 x4 x5 D k88 k100) := by
  intro n
  induction n with
  | zero => intro x1 x2 x4 x5 D; exact pr_none
  | succ n ih =>
    intro x1 x2 x4 x5 D
    show ga_pr D (ga_ck ((0 : Int) ≤ 0 ∧ 0 < 2) (if D 5251 0 ≤ x5 then (k100 D) else (ga_bind (g_X54_isIn x5 x1 D) (fun r76 D76 => if r76 = 0 then (ga_let (aw_w32 (x5 + 1)) (fun v94 => g_X54_family_l61 n x1 x2 x4 v94 D76 k88 k100)) else (if x4 ≠ x2 then (ga_let (aw_w32 (x4 + 1)) (fun v91 => ga_let (aw_w32 (x5 + 1)) (fun v94 => g_X54_family_l61 n x1 x2 v91 v94 D76 k88 k100))) else (k88 x5 D76))))))
    refine pr_ck (fun ha68 => ?_)
    refine pr_ite (fun c69 => ?_) (fun c69 => ?_)
    exact hk100 _ 
    refine pr_bind (g_X54_isIn_pr) (fun r76 D76 => ?_)
    refine pr_ite (fun c79 => ?_) (fun c79 => ?_)
    refine pr_let (fun v94 => ?_)
    exact ih _ _ _ _ _ 
    refine pr_ite (fun c85 => ?_) (fun c85 => ?_)
    refine pr_let (fun v91 => ?_)
    refine pr_let (fun v94 => ?_)
    exact ih _ _ _ _ _ 
    exact hk88 _ _ 
theorem g_X54_family_pr {x1 x2 : Int} {D : ga_D} : ga_pr D (g_X54_family x1 x2 D) := by
  unfold g_X54_family
  refine pr_upd (ga_Pn K_5250 rfl) (fun D2 => ?_)
  refine g_X54_family_l10_pr (fun x1 x2 x3 D44 => ?_) _ _ _ _ _ _ 
  refine pr_ite (fun c45 => ?_) (fun c45 => ?_)
  exact pr_some
  refine pr_ite (fun c50 => ?_) (fun c50 => ?_)
  refine g_X54_family_l61_pr (fun x5 D88 => ?_) (fun D100 => ?_) _ _ _ _ _ _ 
  exact pr_some
  exact pr_some
  exact pr_some
theorem g_X54_pieceOf_j108_pr  {k30 : Int → Int → Int → Int → ga_D → ga_S} (hk30 : ∀ (x2 x4 x6 x7 : Int) (D : ga_D), ga_pr D (k30 x2 x4 x6 x7 D)) (x2 x4 x6 x7 x8 x9 s0 : Int) (D : ga_D) : ga_pr D (g_X54_pieceOf_j108 x2 x4 x6 x7 x8 x9 s0 D k30) := by
  unfold g_X54_pieceOf_j108
  refine pr_ite (fun c114 => ?_) (fun c114 => ?_)
  refine pr_let (fun v131 => ?_)
  refine pr_let (fun v133 => ?_)
  exact hk30 _ _ _ _ _ 
  refine pr_let (fun v131 => ?_)
  refine pr_let (fun v133 => ?_)
  exact hk30 _ _ _ _ _ 
theorem g_X54_pieceOf_j107_pr  {k30 : Int → Int → Int → Int → ga_D → ga_S} (hk30 : ∀ (x2 x4 x6 x7 : Int) (D : ga_D), ga_pr D (k30 x2 x4 x6 x7 D)) (x2 x4 x6 x7 x8 x9 : Int) (D : ga_D) : ga_pr D (g_X54_pieceOf_j107 x2 x4 x6 x7 x8 x9 D k30) := by
  unfold g_X54_pieceOf_j107
  refine g_X54_pieceOf_j108_pr (fun x2 x4 x6 x7 D30 => ?_) _ _ _ _ _ _ _ _ 
  exact hk30 _ _ _ _ _ 
theorem g_X54_pieceOf_j103_pr  {k30 : Int → Int → Int → Int → ga_D → ga_S} (hk30 : ∀ (x2 x4 x6 x7 : Int) (D : ga_D), ga_pr D (k30 x2 x4 x6 x7 D)) (x2 x4 x6 x7 x8 x9 : Int) (D : ga_D) : ga_pr D (g_X54_pieceOf_j103 x2 x4 x6 x7 x8 x9 D k30) := by
  unfold g_X54_pieceOf_j103
  refine g_X54_pieceOf_j108_pr (fun x2 x4 x6 x7 D30 => ?_) _ _ _ _ _ _ _ _ 
  exact hk30 _ _ _ _ _ 
theorem g_X54_pieceOf_l30_pr  {k139 : Int → Int → Int → ga_D → ga_S} (hk139 : ∀ (x2 x4 x6 : Int) (D : ga_D), ga_pr D (k139 x2 x4 x6 D)) : ∀ (n : Nat) (x2 x4 x6 x7 : Int) (D : ga_D), ga_pr D (g_X54_pieceOf_l30 n x2 x4 x6 x7 D k139) := by
  intro n
  induction n with
  | zero => intro x2 x4 x6 x7 D; exact pr_none
  | succ n ih =>
    intro x2 x4 x6 x7 D
    show ga_pr D (ga_ck ((0 : Int) ≤ 0 ∧ 0 < 2) (if D 5256 0 ≤ x7 then (k139 x2 x4 x6 D) else (ga_ck (0 ≤ aw_w32 (3 * x7) ∧ aw_w32 (3 * x7) < 120) (ga_let (D 5257 (aw_w32 (3 * x7))) (fun v50 => ga_ck (0 ≤ aw_w32 ((aw_w32 (3 * x7)) + 1) ∧ aw_w32 ((aw_w32 (3 * x7)) + 1) < 120) (ga_let (D 5257 (aw_w32 ((aw_w32 (3 * x7)) + 1))) (fun v63 => ga_bind (g_X54_isOff x2 v50 D) (fun r68 D68 => if r68 ≠ 0 then (g_X54_pieceOf_j107 x2 x4 x6 x7 v50 v63 D68 (fun x2 x4 x6 x7 D30 => g_X54_pieceOf_l30 n x2 x4 x6 x7 D30 k139)) else (ga_bind (g_X54_isOff x2 v63 D68) (fun r77 D77 => if r77 ≠ 0 then (g_X54_pieceOf_j107 x2 x4 x6 x7 v50 v63 D77 (fun x2 x4 x6 x7 D30 => g_X54_pieceOf_l30 n x2 x4 x6 x7 D30 k139)) else (ga_bind (g_X54_isOff x4 v50 D77) (fun r87 D87 => if r87 ≠ 0 then (g_X54_pieceOf_j103 x2 x4 x6 x7 v50 v63 D87 (fun x2 x4 x6 x7 D30 => g_X54_pieceOf_l30 n x2 x4 x6 x7 D30 k139)) else (ga_bind (g_X54_isOff x4 v63 D87) (fun r97 D97 => if r97 = 0 then (g_X54_pieceOf_j107 x2 x4 x6 x7 v50 v63 D97 (fun x2 x4 x6 x7 D30 => g_X54_pieceOf_l30 n x2 x4 x6 x7 D30 k139)) else (g_X54_pieceOf_j103 x2 x4 x6 x7 v50 v63 D97 (fun x2 x4 x6 x7 D30 => g_X54_pieceOf_l30 n x2 x4 x6 x7 D30 k139))))))))))))))))
    refine pr_ck (fun ha37 => ?_)
    refine pr_ite (fun c38 => ?_) (fun c38 => ?_)
    exact hk139 _ _ _ _ 
    refine pr_ck (fun ha49 => ?_)
    refine pr_let (fun v50 => ?_)
    refine pr_ck (fun ha62 => ?_)
    refine pr_let (fun v63 => ?_)
    refine pr_bind (g_X54_isOff_pr) (fun r68 D68 => ?_)
    refine pr_ite (fun c71 => ?_) (fun c71 => ?_)
    refine g_X54_pieceOf_j107_pr (fun x2 x4 x6 x7 D30 => ?_) _ _ _ _ _ _ _ 
    exact ih _ _ _ _ _ 
    refine pr_bind (g_X54_isOff_pr) (fun r77 D77 => ?_)
    refine pr_ite (fun c80 => ?_) (fun c80 => ?_)
    refine g_X54_pieceOf_j107_pr (fun x2 x4 x6 x7 D30 => ?_) _ _ _ _ _ _ _ 
    exact ih _ _ _ _ _ 
    refine pr_bind (g_X54_isOff_pr) (fun r87 D87 => ?_)
    refine pr_ite (fun c90 => ?_) (fun c90 => ?_)
    refine g_X54_pieceOf_j103_pr (fun x2 x4 x6 x7 D30 => ?_) _ _ _ _ _ _ _ 
    exact ih _ _ _ _ _ 
    refine pr_bind (g_X54_isOff_pr) (fun r97 D97 => ?_)
    refine pr_ite (fun c100 => ?_) (fun c100 => ?_)
    refine g_X54_pieceOf_j107_pr (fun x2 x4 x6 x7 D30 => ?_) _ _ _ _ _ _ _ 
    exact ih _ _ _ _ _ 
    refine g_X54_pieceOf_j103_pr (fun x2 x4 x6 x7 D30 => ?_) _ _ _ _ _ _ _ 
    exact ih _ _ _ _ _ 
theorem g_X54_pieceOf_l20_pr  {k145 : Int → ga_D → ga_S} (hk145 : ∀ (x4 : Int) (D : ga_D), ga_pr D (k145 x4 D)) : ∀ (n : Nat) (x2 x4 x6 : Int) (D : ga_D), ga_pr D (g_X54_pieceOf_l20 n x2 x4 x6 D k145) := by
  intro n
  induction n with
  | zero => intro x2 x4 x6 D; exact pr_none
  | succ n ih =>
    intro x2 x4 x6 D
    show ga_pr D (if 10 ≤ x6 then (k145 x4 D) else (g_X54_pieceOf_l30 aw_fu x2 x4 x6 0 D (fun x2 x4 x6 D139 => ga_let (aw_w32 (x6 + 1)) (fun v139 => g_X54_pieceOf_l20 n x2 x4 v139 D139 k145))))
    refine pr_ite (fun c24 => ?_) (fun c24 => ?_)
    exact hk145 _ _ 
    refine g_X54_pieceOf_l30_pr (fun x2 x4 x6 D139 => ?_) _ _ _ _ _ _ 
    refine pr_let (fun v139 => ?_)
    exact ih _ _ _ _ 
theorem g_X54_pieceOf_pr {x1 x2 : Int} {D : ga_D} : ga_pr D (g_X54_pieceOf x1 x2 D) := by
  unfold g_X54_pieceOf
  refine pr_bind (g_X54_isOff_pr) (fun r2 D2 => ?_)
  refine pr_ite (fun c5 => ?_) (fun c5 => ?_)
  refine pr_let (fun v15 => ?_)
  refine g_X54_pieceOf_l20_pr (fun x4 D145 => ?_) _ _ _ _ _ 
  exact pr_some
  refine g_X54_pieceOf_l20_pr (fun x4 D145 => ?_) _ _ _ _ _ 
  exact pr_some
theorem g_X54_holds_pr {x1 x2 x3 : Int} {D : ga_D} : ga_pr D (g_X54_holds x1 x2 x3 D) := by
  unfold g_X54_holds
  refine pr_upd (ga_Pn K_5250 rfl) (fun D2 => ?_)
  refine pr_bind (g_X54_isPart_pr) (fun r8 D8 => ?_)
  refine pr_ite (fun c11 => ?_) (fun c11 => ?_)
  exact pr_some
  refine pr_bind (g_X54_isPart_pr) (fun r17 D17 => ?_)
  refine pr_ite (fun c20 => ?_) (fun c20 => ?_)
  exact pr_some
  refine pr_bind (g_X54_pieceOf_pr) (fun r27 D27 => ?_)
  refine pr_bind (g_X54_isOff_pr) (fun r31 D31 => ?_)
  refine pr_ite (fun c34 => ?_) (fun c34 => ?_)
  exact pr_some
  exact pr_some
theorem g_X54_alike_l78_pr  {k131 : Int → Int → Int → Int → Int → ga_D → ga_S} (hk131 : ∀ (x1 x2 x3 x4 x5 : Int) (D : ga_D), ga_pr D (k131 x1 x2 x3 x4 x5 D)) : ∀ (n : Nat) (x1 x2 x3 x4 x5 x6 : Int) (D : ga_D), ga_pr D (g_X54_alike_l78 n x1 x2 x3 x4 x5 x6 D k131) := by
  intro n
  induction n with
  | zero => intro x1 x2 x3 x4 x5 x6 D; exact pr_none
  | succ n ih =>
    intro x1 x2 x3 x4 x5 x6 D
    show ga_pr D (if 8 ≤ x6 then (k131 x1 x2 x3 x4 x5 D) else (if x5 = 0 then (ga_let (aw_w32 (x6 + 1)) (fun v125 => g_X54_alike_l78 n x1 x2 x3 x4 0 v125 D k131)) else (ga_ck (0 ≤ aw_w32 ((aw_w32 (8 * x4)) + x6) ∧ aw_w32 ((aw_w32 (8 * x4)) + x6) < 160) (ga_ck (0 ≤ aw_w32 ((aw_w32 (8 * x1)) + x6) ∧ aw_w32 ((aw_w32 (8 * x1)) + x6) < 160) (if D 5258 (aw_w32 ((aw_w32 (8 * x4)) + x6)) ≠ D 5258 (aw_w32 ((aw_w32 (8 * x1)) + x6)) then (ga_let (aw_w32 (x6 + 1)) (fun v125 => g_X54_alike_l78 n x1 x2 x3 x4 0 v125 D k131)) else (ga_let (aw_w32 (x6 + 1)) (fun v125 => g_X54_alike_l78 n x1 x2 x3 x4 1 v125 D k131)))))))
    refine pr_ite (fun c82 => ?_) (fun c82 => ?_)
    exact hk131 _ _ _ _ _ _ 
    refine pr_ite (fun c87 => ?_) (fun c87 => ?_)
    refine pr_let (fun v125 => ?_)
    exact ih _ _ _ _ _ _ _ 
    refine pr_ck (fun ha102 => ?_)
    refine pr_ck (fun ha114 => ?_)
    refine pr_ite (fun c115 => ?_) (fun c115 => ?_)
    refine pr_let (fun v125 => ?_)
    exact ih _ _ _ _ _ _ _ 
    refine pr_let (fun v125 => ?_)
    exact ih _ _ _ _ _ _ _ 
theorem g_X54_alike_l10_pr  {k141 : Int → ga_D → ga_S} {k153 : ga_D → ga_S} (hk141 : ∀ (x4 : Int) (D : ga_D), ga_pr D (k141 x4 D)) (hk153 : ∀ (D : ga_D), ga_pr D (k153 D)) : ∀ (n : Nat) (x1 x2 x3 x4 : Int) (D : ga_D), ga_pr D (g_X54_alike_l10 n x1 x2 x3 x4 D k141 k153) := by
  intro n
  induction n with
  | zero => intro x1 x2 x3 x4 D; exact pr_none
  | succ n ih =>
    intro x1 x2 x3 x4 D
    show ga_pr D (ga_ck ((0 : Int) ≤ 0 ∧ 0 < 2) (if D 5251 0 ≤ x4 then (k153 D) else (ga_bind (g_X54_isPart 0 x1 D) (fun r24 D24 => if r24 = 0 then (k153 D24) else (if x4 = x1 then (g_X54_alike_l78 aw_fu x1 x2 x3 x4 0 0 D24 (fun x1 x2 x3 x4 x5 D131 => if x5 = 0 then (ga_let (aw_w32 (x4 + 1)) (fun v147 => g_X54_alike_l10 n x1 x2 x3 v147 D131 k141 k153)) else (if x3 ≠ x2 then (ga_let (aw_w32 (x3 + 1)) (fun v144 => ga_let (aw_w32 (x4 + 1)) (fun v147 => g_X54_alike_l10 n x1 x2 v144 v147 D131 k141 k153))) else (k141 x4 D131)))) else (ga_ck (0 ≤ x4 ∧ x4 < 20) (ga_ck (0 ≤ x1 ∧ x1 < 20) (if D24 5252 x4 ≠ D24 5252 x1 then (g_X54_alike_l78 aw_fu x1 x2 x3 x4 0 0 D24 (fun x1 x2 x3 x4 x5 D131 => if x5 = 0 then (ga_let (aw_w32 (x4 + 1)) (fun v147 => g_X54_alike_l10 n x1 x2 x3 v147 D131 k141 k153)) else (if x3 ≠ x2 then (ga_let (aw_w32 (x3 + 1)) (fun v144 => ga_let (aw_w32 (x4 + 1)) (fun v147 => g_X54_alike_l10 n x1 x2 v144 v147 D131 k141 k153))) else (k141 x4 D131)))) else (ga_ck (0 ≤ x4 ∧ x4 < 20) (ga_ck (0 ≤ x1 ∧ x1 < 20) (if D24 5253 x4 ≠ D24 5253 x1 then (g_X54_alike_l78 aw_fu x1 x2 x3 x4 0 0 D24 (fun x1 x2 x3 x4 x5 D131 => if x5 = 0 then (ga_let (aw_w32 (x4 + 1)) (fun v147 => g_X54_alike_l10 n x1 x2 x3 v147 D131 k141 k153)) else (if x3 ≠ x2 then (ga_let (aw_w32 (x3 + 1)) (fun v144 => ga_let (aw_w32 (x4 + 1)) (fun v147 => g_X54_alike_l10 n x1 x2 v144 v147 D131 k141 k153))) else (k141 x4 D131)))) else (g_X54_alike_l78 aw_fu x1 x2 x3 x4 1 0 D24 (fun x1 x2 x3 x4 x5 D131 => if x5 = 0 then (ga_let (aw_w32 (x4 + 1)) (fun v147 => g_X54_alike_l10 n x1 x2 x3 v147 D131 k141 k153)) else (if x3 ≠ x2 then (ga_let (aw_w32 (x3 + 1)) (fun v144 => ga_let (aw_w32 (x4 + 1)) (fun v147 => g_X54_alike_l10 n x1 x2 v144 v147 D131 k141 k153))) else (k141 x4 D131)))))))))))))))
    refine pr_ck (fun ha17 => ?_)
    refine pr_ite (fun c18 => ?_) (fun c18 => ?_)
    exact hk153 _ 
    refine pr_bind (g_X54_isPart_pr) (fun r24 D24 => ?_)
    refine pr_ite (fun c27 => ?_) (fun c27 => ?_)
    exact hk153 _ 
    refine pr_ite (fun c33 => ?_) (fun c33 => ?_)
    refine g_X54_alike_l78_pr (fun x1 x2 x3 x4 x5 D131 => ?_) _ _ _ _ _ _ _ _ 
    refine pr_ite (fun c133 => ?_) (fun c133 => ?_)
    refine pr_let (fun v147 => ?_)
    exact ih _ _ _ _ _ 
    refine pr_ite (fun c138 => ?_) (fun c138 => ?_)
    refine pr_let (fun v144 => ?_)
    refine pr_let (fun v147 => ?_)
    exact ih _ _ _ _ _ 
    exact hk141 _ _ 
    refine pr_ck (fun ha42 => ?_)
    refine pr_ck (fun ha48 => ?_)
    refine pr_ite (fun c49 => ?_) (fun c49 => ?_)
    refine g_X54_alike_l78_pr (fun x1 x2 x3 x4 x5 D131 => ?_) _ _ _ _ _ _ _ _ 
    refine pr_ite (fun c133 => ?_) (fun c133 => ?_)
    refine pr_let (fun v147 => ?_)
    exact ih _ _ _ _ _ 
    refine pr_ite (fun c138 => ?_) (fun c138 => ?_)
    refine pr_let (fun v144 => ?_)
    refine pr_let (fun v147 => ?_)
    exact ih _ _ _ _ _ 
    exact hk141 _ _ 
    refine pr_ck (fun ha58 => ?_)
    refine pr_ck (fun ha64 => ?_)
    refine pr_ite (fun c65 => ?_) (fun c65 => ?_)
    refine g_X54_alike_l78_pr (fun x1 x2 x3 x4 x5 D131 => ?_) _ _ _ _ _ _ _ _ 
    refine pr_ite (fun c133 => ?_) (fun c133 => ?_)
    refine pr_let (fun v147 => ?_)
    exact ih _ _ _ _ _ 
    refine pr_ite (fun c138 => ?_) (fun c138 => ?_)
    refine pr_let (fun v144 => ?_)
    refine pr_let (fun v147 => ?_)
    exact ih _ _ _ _ _ 
    exact hk141 _ _ 
    refine g_X54_alike_l78_pr (fun x1 x2 x3 x4 x5 D131 => ?_) _ _ _ _ _ _ _ _ 
    refine pr_ite (fun c133 => ?_) (fun c133 => ?_)
    refine pr_let (fun v147 => ?_)
    exact ih _ _ _ _ _ 
    refine pr_ite (fun c138 => ?_) (fun c138 => ?_)
    refine pr_let (fun v144 => ?_)
    refine pr_let (fun v147 => ?_)
    exact ih _ _ _ _ _ 
    exact hk141 _ _ 
theorem g_X54_alike_pr {x1 x2 : Int} {D : ga_D} : ga_pr D (g_X54_alike x1 x2 D) := by
  unfold g_X54_alike
  refine pr_upd (ga_Pn K_5250 rfl) (fun D2 => ?_)
  refine g_X54_alike_l10_pr (fun x4 D141 => ?_) (fun D153 => ?_) _ _ _ _ _ _ 
  exact pr_some
  exact pr_some
theorem g_X54_weight_l23_pr  {k76 : Int → ga_D → ga_S} (hk76 : ∀ (x2 : Int) (D : ga_D), ga_pr D (k76 x2 D)) : ∀ (n : Nat) (x1 x2 x4 : Int) (D : ga_D), ga_pr D (g_X54_weight_l23 n x1 x2 x4 D k76) := by
  intro n
  induction n with
  | zero => intro x1 x2 x4 D; exact pr_none
  | succ n ih =>
    intro x1 x2 x4 D
    show ga_pr D (ga_ck ((0 : Int) ≤ 0 ∧ 0 < 2) (if D 5251 0 ≤ x4 then (k76 x2 D) else (if D 5250 12 ≠ 0 then (k76 x2 D) else (ga_bind (g_X54_pieceOf x1 0 D) (fun r45 D45 => ga_bind (g_X54_isOff r45 x4 D45) (fun r50 D50 => if r50 = 0 then (ga_let (aw_w64 (x2 + 0)) (fun v69 => ga_let (aw_w32 (x4 + 1)) (fun v70 => g_X54_weight_l23 n x1 v69 v70 D50 k76))) else (ga_ck (0 ≤ x4 ∧ x4 < 20) (ga_let (aw_w64 (x2 + (D50 5253 x4))) (fun v69 => ga_let (aw_w32 (x4 + 1)) (fun v70 => g_X54_weight_l23 n x1 v69 v70 D50 k76))))))))))
    refine pr_ck (fun ha30 => ?_)
    refine pr_ite (fun c31 => ?_) (fun c31 => ?_)
    exact hk76 _ _ 
    refine pr_ite (fun c38 => ?_) (fun c38 => ?_)
    exact hk76 _ _ 
    refine pr_bind (g_X54_pieceOf_pr) (fun r45 D45 => ?_)
    refine pr_bind (g_X54_isOff_pr) (fun r50 D50 => ?_)
    refine pr_ite (fun c53 => ?_) (fun c53 => ?_)
    refine pr_let (fun v69 => ?_)
    refine pr_let (fun v70 => ?_)
    exact ih _ _ _ _ 
    refine pr_ck (fun ha62 => ?_)
    refine pr_let (fun v69 => ?_)
    refine pr_let (fun v70 => ?_)
    exact ih _ _ _ _ 
theorem g_X54_weight_pr {x1 : Int} {D : ga_D} : ga_pr D (g_X54_weight x1 D) := by
  unfold g_X54_weight
  refine pr_bind (g_X54_isPart_pr) (fun r4 D4 => ?_)
  refine pr_ite (fun c7 => ?_) (fun c7 => ?_)
  refine pr_upd (ga_Pn K_5250 rfl) (fun D15 => ?_)
  refine g_X54_weight_l23_pr (fun x2 D76 => ?_) _ _ _ _ _ 
  exact pr_some
  refine pr_upd (ga_Pn K_5250 rfl) (fun D15 => ?_)
  refine g_X54_weight_l23_pr (fun x2 D76 => ?_) _ _ _ _ _ 
  exact pr_some
theorem g_X54_hazard_pr {x1 x2 : Int} {D : ga_D} : ga_pr D (g_X54_hazard x1 x2 D) := by
  unfold g_X54_hazard
  refine pr_upd (ga_Pn K_5250 rfl) (fun D2 => ?_)
  refine pr_bind (g_X54_tell_pr) (fun r10 D10 => ?_)
  refine pr_ck (fun hr13 => ?_)
  exact pr_some
theorem g_X54_damage_pr {x1 x2 : Int} {D : ga_D} : ga_pr D (g_X54_damage x1 x2 D) := by
  unfold g_X54_damage
  refine pr_upd (ga_Pn K_5250 rfl) (fun D2 => ?_)
  refine pr_bind (g_X54_isAllowed_pr) (fun r12 D12 => ?_)
  refine pr_ite (fun c15 => ?_) (fun c15 => ?_)
  refine pr_ck (fun ha25 => ?_)
  refine pr_let (fun v26 => ?_)
  refine pr_ck (fun ha33 => ?_)
  refine pr_upd (ga_Pn K_5260 rfl) (fun D33 => ?_)
  exact pr_some
  exact pr_some
theorem g_X54_free_pr {x1 x2 : Int} {D : ga_D} : ga_pr D (g_X54_free x1 x2 D) := by
  unfold g_X54_free
  refine pr_upd (ga_Pn K_5250 rfl) (fun D2 => ?_)
  refine pr_bind (g_X54_isPart_pr) (fun r8 D8 => ?_)
  refine pr_ite (fun c11 => ?_) (fun c11 => ?_)
  exact pr_some
  refine pr_bind (g_X54_isFree_pr) (fun r17 D17 => ?_)
  refine pr_ite (fun c20 => ?_) (fun c20 => ?_)
  exact pr_some
  exact pr_some
theorem g_X54_plain_pr {x1 x2 : Int} {D : ga_D} : ga_pr D (g_X54_plain x1 x2 D) := by
  unfold g_X54_plain
  refine pr_upd (ga_Pn K_5250 rfl) (fun D2 => ?_)
  refine pr_bind (g_X54_isPart_pr) (fun r8 D8 => ?_)
  refine pr_ite (fun c11 => ?_) (fun c11 => ?_)
  exact pr_some
  refine pr_bind (g_X54_isPlain_pr) (fun r17 D17 => ?_)
  refine pr_ite (fun c20 => ?_) (fun c20 => ?_)
  exact pr_some
  exact pr_some
theorem g_X54_put_j20_pr  (s0 : Int) (D : ga_D) : ga_pr D (g_X54_put_j20 s0 D) := by
  unfold g_X54_put_j20
  refine pr_upd (ga_Pn K_5250 rfl) (fun D20 => ?_)
  refine pr_upd (ga_Pn K_5250 rfl) (fun D30 => ?_)
  exact pr_some
theorem g_X54_put_pr {x1 : Int} {D : ga_D} : ga_pr D (g_X54_put x1 D) := by
  unfold g_X54_put
  refine pr_ite (fun c9 => ?_) (fun c9 => ?_)
  refine g_X54_put_j20_pr _ _ 
  refine g_X54_put_j20_pr _ _ 
theorem g_X54_putWord_l11_pr  {k34 : Int → Int → ga_D → ga_S} (hk34 : ∀ (x2 x4 : Int) (D : ga_D), ga_pr D (k34 x2 x4 D)) : ∀ (n : Nat) (x2 x4 x5 : Int) (D : ga_D), ga_pr D (g_X54_putWord_l11 n x2 x4 x5 D k34) := by
  intro n
  induction n with
  | zero => intro x2 x4 x5 D; exact pr_none
  | succ n ih =>
    intro x2 x4 x5 D
    show ga_pr D (if x5 ≤ 255 then (k34 x2 x4 D) else (ga_let (aw_w32 (x4 + 1)) (fun v20 => ga_let (aw_w64 (Int.tdiv x5 256)) (fun v29 => g_X54_putWord_l11 n x2 v20 v29 D k34))))
    refine pr_ite (fun c17 => ?_) (fun c17 => ?_)
    exact hk34 _ _ _ 
    refine pr_let (fun v20 => ?_)
    refine pr_let (fun v29 => ?_)
    exact ih _ _ _ _ 
theorem g_X54_putWord_l40_pr  {k67 : ga_D → ga_S} (hk67 : ∀ (D : ga_D), ga_pr D (k67 D)) : ∀ (n : Nat) (x2 x5 : Int) (D : ga_D), ga_pr D (g_X54_putWord_l40 n x2 x5 D k67) := by
  intro n
  induction n with
  | zero => intro x2 x5 D; exact pr_none
  | succ n ih =>
    intro x2 x5 D
    show ga_pr D (if x5 < 0 then (k67 D) else (ga_bind (g_X54_put (aw_w32 (aw_land (aw_lshr x2 (aw_w32 (8 * x5))) 255)) D) (fun r58 D58 => ga_let (aw_w32 (x5 + (-1))) (fun v61 => g_X54_putWord_l40 n x2 v61 D58 k67))))
    refine pr_ite (fun c42 => ?_) (fun c42 => ?_)
    exact hk67 _ 
    refine pr_bind (g_X54_put_pr) (fun r58 D58 => ?_)
    refine pr_let (fun v61 => ?_)
    exact ih _ _ _ 
theorem g_X54_putWord_pr {x1 : Int} {D : ga_D} : ga_pr D (g_X54_putWord x1 D) := by
  unfold g_X54_putWord
  refine pr_bind (g_X54_nameOf_pr) (fun r1 D1 => ?_)
  refine g_X54_putWord_l11_pr (fun x2 x4 D34 => ?_) _ _ _ _ _ 
  refine pr_let (fun v38 => ?_)
  refine g_X54_putWord_l40_pr (fun D67 => ?_) _ _ _ _ 
  refine pr_bind (g_X54_put_pr) (fun r70 D70 => ?_)
  exact pr_some
theorem g_X54_putNumber_l2_pr  {k18 : Int → Int → ga_D → ga_S} (hk18 : ∀ (x1 x2 : Int) (D : ga_D), ga_pr D (k18 x1 x2 D)) : ∀ (n : Nat) (x1 x2 : Int) (D : ga_D), ga_pr D (g_X54_putNumber_l2 n x1 x2 D k18) := by
  intro n
  induction n with
  | zero => intro x1 x2 D; exact pr_none
  | succ n ih =>
    intro x1 x2 D
    show ga_pr D (ga_ck (x2 ≠ 0) (if aw_w32 (Int.tdiv x1 x2) ≤ 9 then (k18 x1 x2 D) else (ga_let (aw_w32 (x2 * 10)) (fun v14 => g_X54_putNumber_l2 n x1 v14 D k18))))
    refine pr_ck (fun hz4 => ?_)
    refine pr_ite (fun c7 => ?_) (fun c7 => ?_)
    exact hk18 _ _ _ 
    refine pr_let (fun v14 => ?_)
    exact ih _ _ _ 
theorem g_X54_putNumber_l18_pr  {k43 : ga_D → ga_S} (hk43 : ∀ (D : ga_D), ga_pr D (k43 D)) : ∀ (n : Nat) (x1 x2 : Int) (D : ga_D), ga_pr D (g_X54_putNumber_l18 n x1 x2 D k43) := by
  intro n
  induction n with
  | zero => intro x1 x2 D; exact pr_none
  | succ n ih =>
    intro x1 x2 D
    show ga_pr D (if x2 ≤ 0 then (k43 D) else (ga_ck (x2 ≠ 0) (ga_bind (g_X54_put (aw_w32 (48 + (Int.tmod (aw_w32 (Int.tdiv x1 x2)) 10))) D) (fun r32 D32 => ga_let (aw_w32 (Int.tdiv x2 10)) (fun v39 => g_X54_putNumber_l18 n x1 v39 D32 k43)))))
    refine pr_ite (fun c19 => ?_) (fun c19 => ?_)
    exact hk43 _ 
    refine pr_ck (fun hz27 => ?_)
    refine pr_bind (g_X54_put_pr) (fun r32 D32 => ?_)
    refine pr_let (fun v39 => ?_)
    exact ih _ _ _ 
theorem g_X54_putNumber_pr {x1 : Int} {D : ga_D} : ga_pr D (g_X54_putNumber x1 D) := by
  unfold g_X54_putNumber
  refine g_X54_putNumber_l2_pr (fun x1 x2 D18 => ?_) _ _ _ _ 
  refine g_X54_putNumber_l18_pr (fun D43 => ?_) _ _ _ _ 
  refine pr_bind (g_X54_put_pr) (fun r46 D46 => ?_)
  exact pr_some
theorem g_X54_putTwo_pr {x1 x2 x3 : Int} {D : ga_D} : ga_pr D (g_X54_putTwo x1 x2 x3 D) := by
  unfold g_X54_putTwo
  refine pr_bind (g_X54_putWord_pr) (fun r2 D2 => ?_)
  refine pr_bind (g_X54_putNumber_pr) (fun r7 D7 => ?_)
  refine pr_bind (g_X54_putNumber_pr) (fun r12 D12 => ?_)
  exact pr_some
theorem g_X54_putPart_l2_pr  {k39 : Int → ga_D → ga_S} (hk39 : ∀ (x1 : Int) (D : ga_D), ga_pr D (k39 x1 D)) : ∀ (n : Nat) (x1 x2 : Int) (D : ga_D), ga_pr D (g_X54_putPart_l2 n x1 x2 D k39) := by
  intro n
  induction n with
  | zero => intro x1 x2 D; exact pr_none
  | succ n ih =>
    intro x1 x2 D
    show ga_pr D (ga_ck ((0 : Int) ≤ 0 ∧ 0 < 2) (if D 5251 0 ≤ x2 then (k39 x1 D) else (ga_ck (0 ≤ aw_w32 ((aw_w32 (10 * x1)) + x2) ∧ aw_w32 ((aw_w32 (10 * x1)) + x2) < 200) (if D 5254 (aw_w32 ((aw_w32 (10 * x1)) + x2)) = 0 then (ga_let (aw_w32 (x2 + 1)) (fun v33 => g_X54_putPart_l2 n x1 v33 D k39)) else (ga_bind (g_X54_putTwo 1 x1 x2 D) (fun r30 D30 => ga_let (aw_w32 (x2 + 1)) (fun v33 => g_X54_putPart_l2 n x1 v33 D30 k39)))))))
    refine pr_ck (fun ha8 => ?_)
    refine pr_ite (fun c9 => ?_) (fun c9 => ?_)
    exact hk39 _ _ 
    refine pr_ck (fun ha22 => ?_)
    refine pr_ite (fun c23 => ?_) (fun c23 => ?_)
    refine pr_let (fun v33 => ?_)
    exact ih _ _ _ 
    refine pr_bind (g_X54_putTwo_pr) (fun r30 D30 => ?_)
    refine pr_let (fun v33 => ?_)
    exact ih _ _ _ 
theorem g_X54_putPart_l49_pr  {k92 : Int → Int → ga_D → ga_S} (hk92 : ∀ (x1 x2 : Int) (D : ga_D), ga_pr D (k92 x1 x2 D)) : ∀ (n : Nat) (x1 x2 x3 : Int) (D : ga_D), ga_pr D (g_X54_putPart_l49 n x1 x2 x3 D k92) := by
  intro n
  induction n with
  | zero => intro x1 x2 x3 D; exact pr_none
  | succ n ih =>
    intro x1 x2 x3 D
    show ga_pr D (ga_ck ((0 : Int) ≤ 0 ∧ 0 < 2) (if D 5251 0 ≤ x3 then (k92 x1 x2 D) else (ga_bind (g_X54_wayAt 0 x1 x2 x3 D) (fun r67 D67 => ga_ck (0 ≤ r67 ∧ r67 < 1200) (if D67 5255 r67 = 0 then (ga_let (aw_w32 (x3 + 1)) (fun v86 => g_X54_putPart_l49 n x1 x2 v86 D67 k92)) else (ga_bind (g_X54_putTwo 2 x1 x2 D67) (fun r78 D78 => ga_bind (g_X54_putNumber x3 D78) (fun r83 D83 => ga_let (aw_w32 (x3 + 1)) (fun v86 => g_X54_putPart_l49 n x1 x2 v86 D83 k92)))))))))
    refine pr_ck (fun ha55 => ?_)
    refine pr_ite (fun c56 => ?_) (fun c56 => ?_)
    exact hk92 _ _ _ 
    refine pr_bind (g_X54_wayAt_pr) (fun r67 D67 => ?_)
    refine pr_ck (fun ha70 => ?_)
    refine pr_ite (fun c71 => ?_) (fun c71 => ?_)
    refine pr_let (fun v86 => ?_)
    exact ih _ _ _ _ 
    refine pr_bind (g_X54_putTwo_pr) (fun r78 D78 => ?_)
    refine pr_bind (g_X54_putNumber_pr) (fun r83 D83 => ?_)
    refine pr_let (fun v86 => ?_)
    exact ih _ _ _ _ 
theorem g_X54_putPart_l41_pr  {k98 : Int → ga_D → ga_S} (hk98 : ∀ (x1 : Int) (D : ga_D), ga_pr D (k98 x1 D)) : ∀ (n : Nat) (x1 x2 : Int) (D : ga_D), ga_pr D (g_X54_putPart_l41 n x1 x2 D k98) := by
  intro n
  induction n with
  | zero => intro x1 x2 D; exact pr_none
  | succ n ih =>
    intro x1 x2 D
    show ga_pr D (if 6 ≤ x2 then (k98 x1 D) else (g_X54_putPart_l49 aw_fu x1 x2 0 D (fun x1 x2 D92 => ga_let (aw_w32 (x2 + 1)) (fun v92 => g_X54_putPart_l41 n x1 v92 D92 k98))))
    refine pr_ite (fun c44 => ?_) (fun c44 => ?_)
    exact hk98 _ _ 
    refine g_X54_putPart_l49_pr (fun x1 x2 D92 => ?_) _ _ _ _ _ 
    refine pr_let (fun v92 => ?_)
    exact ih _ _ _ 
theorem g_X54_putPart_l100_pr  {k133 : Int → ga_D → ga_S} (hk133 : ∀ (x1 : Int) (D : ga_D), ga_pr D (k133 x1 D)) : ∀ (n : Nat) (x1 x2 : Int) (D : ga_D), ga_pr D (g_X54_putPart_l100 n x1 x2 D k133) := by
  intro n
  induction n with
  | zero => intro x1 x2 D; exact pr_none
  | succ n ih =>
    intro x1 x2 D
    show ga_pr D (if 8 ≤ x2 then (k133 x1 D) else (ga_ck (0 ≤ aw_w32 ((aw_w32 (8 * x1)) + x2) ∧ aw_w32 ((aw_w32 (8 * x1)) + x2) < 160) (if D 5258 (aw_w32 ((aw_w32 (8 * x1)) + x2)) = 0 then (ga_let (aw_w32 (x2 + 1)) (fun v127 => g_X54_putPart_l100 n x1 v127 D k133)) else (ga_bind (g_X54_putTwo 4 x1 x2 D) (fun r124 D124 => ga_let (aw_w32 (x2 + 1)) (fun v127 => g_X54_putPart_l100 n x1 v127 D124 k133))))))
    refine pr_ite (fun c103 => ?_) (fun c103 => ?_)
    exact hk133 _ _ 
    refine pr_ck (fun ha116 => ?_)
    refine pr_ite (fun c117 => ?_) (fun c117 => ?_)
    refine pr_let (fun v127 => ?_)
    exact ih _ _ _ 
    refine pr_bind (g_X54_putTwo_pr) (fun r124 D124 => ?_)
    refine pr_let (fun v127 => ?_)
    exact ih _ _ _ 
theorem g_X54_putPart_j154_pr  (x1 : Int) (D : ga_D) : ga_pr D (g_X54_putPart_j154 x1 D) := by
  unfold g_X54_putPart_j154
  refine pr_ck (fun ha159 => ?_)
  refine pr_ite (fun c160 => ?_) (fun c160 => ?_)
  exact pr_some
  refine pr_ck (fun ha172 => ?_)
  refine pr_bind (g_X54_putTwo_pr) (fun r173 D173 => ?_)
  exact pr_some
theorem g_X54_putPart_pr {x1 : Int} {D : ga_D} : ga_pr D (g_X54_putPart x1 D) := by
  unfold g_X54_putPart
  refine g_X54_putPart_l2_pr (fun x1 D39 => ?_) _ _ _ _ 
  refine g_X54_putPart_l41_pr (fun x1 D98 => ?_) _ _ _ _ 
  refine g_X54_putPart_l100_pr (fun x1 D133 => ?_) _ _ _ _ 
  refine pr_ck (fun ha138 => ?_)
  refine pr_ite (fun c139 => ?_) (fun c139 => ?_)
  refine g_X54_putPart_j154_pr _ _ 
  refine pr_ck (fun ha150 => ?_)
  refine pr_bind (g_X54_putTwo_pr) (fun r151 D151 => ?_)
  refine g_X54_putPart_j154_pr _ _ 
theorem g_X54_write_l22_pr  {k55 : ga_D → ga_S} (hk55 : ∀ (D : ga_D), ga_pr D (k55 D)) : ∀ (n : Nat) (x2 : Int) (D : ga_D), ga_pr D (g_X54_write_l22 n x2 D k55) := by
  intro n
  induction n with
  | zero => intro x2 D; exact pr_none
  | succ n ih =>
    intro x2 D
    show ga_pr D (ga_ck ((0 : Int) ≤ 0 ∧ 0 < 2) (if D 5251 0 ≤ x2 then (k55 D) else (ga_ck (0 ≤ x2 ∧ x2 < 20) (ga_ck (0 ≤ x2 ∧ x2 < 20) (ga_bind (g_X54_putTwo 0 (D 5252 x2) (D 5253 x2) D) (fun r46 D46 => ga_let (aw_w32 (x2 + 1)) (fun v49 => g_X54_write_l22 n v49 D46 k55)))))))
    refine pr_ck (fun ha28 => ?_)
    refine pr_ite (fun c29 => ?_) (fun c29 => ?_)
    exact hk55 _ 
    refine pr_ck (fun ha39 => ?_)
    refine pr_ck (fun ha45 => ?_)
    refine pr_bind (g_X54_putTwo_pr) (fun r46 D46 => ?_)
    refine pr_let (fun v49 => ?_)
    exact ih _ _ 
theorem g_X54_write_l57_pr  {k78 : ga_D → ga_S} (hk78 : ∀ (D : ga_D), ga_pr D (k78 D)) : ∀ (n : Nat) (x2 : Int) (D : ga_D), ga_pr D (g_X54_write_l57 n x2 D k78) := by
  intro n
  induction n with
  | zero => intro x2 D; exact pr_none
  | succ n ih =>
    intro x2 D
    show ga_pr D (ga_ck ((0 : Int) ≤ 0 ∧ 0 < 2) (if D 5251 0 ≤ x2 then (k78 D) else (ga_bind (g_X54_putPart x2 D) (fun r69 D69 => ga_let (aw_w32 (x2 + 1)) (fun v72 => g_X54_write_l57 n v72 D69 k78)))))
    refine pr_ck (fun ha63 => ?_)
    refine pr_ite (fun c64 => ?_) (fun c64 => ?_)
    exact hk78 _ 
    refine pr_bind (g_X54_putPart_pr) (fun r69 D69 => ?_)
    refine pr_let (fun v72 => ?_)
    exact ih _ _ 
theorem g_X54_write_l80_pr  {k133 : ga_D → ga_S} (hk133 : ∀ (D : ga_D), ga_pr D (k133 D)) : ∀ (n : Nat) (x2 : Int) (D : ga_D), ga_pr D (g_X54_write_l80 n x2 D k133) := by
  intro n
  induction n with
  | zero => intro x2 D; exact pr_none
  | succ n ih =>
    intro x2 D
    show ga_pr D (ga_ck ((0 : Int) ≤ 0 ∧ 0 < 2) (if D 5256 0 ≤ x2 then (k133 D) else (ga_ck (0 ≤ aw_w32 (3 * x2) ∧ aw_w32 (3 * x2) < 120) (ga_ck (0 ≤ aw_w32 ((aw_w32 (3 * x2)) + 1) ∧ aw_w32 ((aw_w32 (3 * x2)) + 1) < 120) (ga_bind (g_X54_putTwo 3 (D 5257 (aw_w32 (3 * x2))) (D 5257 (aw_w32 ((aw_w32 (3 * x2)) + 1))) D) (fun r110 D110 => ga_ck (0 ≤ aw_w32 ((aw_w32 (3 * x2)) + 2) ∧ aw_w32 ((aw_w32 (3 * x2)) + 2) < 120) (ga_bind (g_X54_putNumber (D110 5257 (aw_w32 ((aw_w32 (3 * x2)) + 2))) D110) (fun r124 D124 => ga_let (aw_w32 (x2 + 1)) (fun v127 => g_X54_write_l80 n v127 D124 k133)))))))))
    refine pr_ck (fun ha86 => ?_)
    refine pr_ite (fun c87 => ?_) (fun c87 => ?_)
    exact hk133 _ 
    refine pr_ck (fun ha99 => ?_)
    refine pr_ck (fun ha109 => ?_)
    refine pr_bind (g_X54_putTwo_pr) (fun r110 D110 => ?_)
    refine pr_ck (fun ha123 => ?_)
    refine pr_bind (g_X54_putNumber_pr) (fun r124 D124 => ?_)
    refine pr_let (fun v127 => ?_)
    exact ih _ _ 
theorem g_X54_write_pr {x1 : Int} {D : ga_D} : ga_pr D (g_X54_write x1 D) := by
  unfold g_X54_write
  refine pr_upd (ga_Pn K_5250 rfl) (fun D2 => ?_)
  refine pr_upd (ga_Pn K_5250 rfl) (fun D7 => ?_)
  refine pr_upd (ga_Pn K_5250 rfl) (fun D12 => ?_)
  refine pr_upd (ga_Pn K_5250 rfl) (fun D17 => ?_)
  refine g_X54_write_l22_pr (fun D55 => ?_) _ _ _ 
  refine g_X54_write_l57_pr (fun D78 => ?_) _ _ _ 
  refine g_X54_write_l80_pr (fun D133 => ?_) _ _ _ 
  exact pr_some
theorem g_X54_loose_l24_pr  {k60 : Int → Int → Int → ga_D → ga_S} (hk60 : ∀ (x1 x2 x3 : Int) (D : ga_D), ga_pr D (k60 x1 x2 x3 D)) : ∀ (n : Nat) (x1 x2 x3 x4 : Int) (D : ga_D), ga_pr D (g_X54_loose_l24 n x1 x2 x3 x4 D k60) := by
  intro n
  induction n with
  | zero => intro x1 x2 x3 x4 D; exact pr_none
  | succ n ih =>
    intro x1 x2 x3 x4 D
    show ga_pr D (if x2 ≤ x4 then (k60 x1 x2 x3 D) else (if x3 = 0 then (ga_let (aw_w32 (x4 + 1)) (fun v54 => g_X54_loose_l24 n x1 x2 0 v54 D k60)) else (ga_bind (g_X54_pieceOf x2 0 D) (fun r37 D37 => ga_bind (g_X54_isOff r37 x4 D37) (fun r42 D42 => if r42 ≠ 0 then (ga_let (aw_w32 (x4 + 1)) (fun v54 => g_X54_loose_l24 n x1 x2 0 v54 D42 k60)) else (ga_let (aw_w32 (x4 + 1)) (fun v54 => g_X54_loose_l24 n x1 x2 1 v54 D42 k60)))))))
    refine pr_ite (fun c27 => ?_) (fun c27 => ?_)
    exact hk60 _ _ _ _ 
    refine pr_ite (fun c31 => ?_) (fun c31 => ?_)
    refine pr_let (fun v54 => ?_)
    exact ih _ _ _ _ _ 
    refine pr_bind (g_X54_pieceOf_pr) (fun r37 D37 => ?_)
    refine pr_bind (g_X54_isOff_pr) (fun r42 D42 => ?_)
    refine pr_ite (fun c45 => ?_) (fun c45 => ?_)
    refine pr_let (fun v54 => ?_)
    exact ih _ _ _ _ _ 
    refine pr_let (fun v54 => ?_)
    exact ih _ _ _ _ _ 
theorem g_X54_loose_l9_pr  {k78 : Int → ga_D → ga_S} (hk78 : ∀ (x1 : Int) (D : ga_D), ga_pr D (k78 x1 D)) : ∀ (n : Nat) (x1 x2 : Int) (D : ga_D), ga_pr D (g_X54_loose_l9 n x1 x2 D k78) := by
  intro n
  induction n with
  | zero => intro x1 x2 D; exact pr_none
  | succ n ih =>
    intro x1 x2 D
    show ga_pr D (ga_ck ((0 : Int) ≤ 0 ∧ 0 < 2) (if D 5251 0 ≤ x2 then (k78 x1 D) else (g_X54_loose_l24 aw_fu x1 x2 1 0 D (fun x1 x2 x3 D60 => if x3 = 0 then (ga_let (aw_w32 (x1 + 0)) (fun v71 => ga_let (aw_w32 (x2 + 1)) (fun v72 => g_X54_loose_l9 n v71 v72 D60 k78))) else (ga_let (aw_w32 (x1 + 1)) (fun v71 => ga_let (aw_w32 (x2 + 1)) (fun v72 => g_X54_loose_l9 n v71 v72 D60 k78)))))))
    refine pr_ck (fun ha15 => ?_)
    refine pr_ite (fun c16 => ?_) (fun c16 => ?_)
    exact hk78 _ _ 
    refine g_X54_loose_l24_pr (fun x1 x2 x3 D60 => ?_) _ _ _ _ _ _ 
    refine pr_ite (fun c62 => ?_) (fun c62 => ?_)
    refine pr_let (fun v71 => ?_)
    refine pr_let (fun v72 => ?_)
    exact ih _ _ _ 
    refine pr_let (fun v71 => ?_)
    refine pr_let (fun v72 => ?_)
    exact ih _ _ _ 
theorem g_X54_loose_pr {D : ga_D} : ga_pr D (g_X54_loose D) := by
  unfold g_X54_loose
  refine pr_upd (ga_Pn K_5250 rfl) (fun D2 => ?_)
  refine g_X54_loose_l9_pr (fun x1 D78 => ?_) _ _ _ _ 
  exact pr_some
theorem g_X54_thrown_pr {D : ga_D} : ga_pr D (g_X54_thrown D) := by
  unfold g_X54_thrown
  exact pr_some
