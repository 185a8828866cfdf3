theorem g_X17_isColumn_pr {x1 : Int} {D : ga_D} : ga_pr D (g_X17_isColumn x1 D) := by
  unfold g_X17_isColumn
  refine pr_ite (fun c4 => ?_) (fun c4 => ?_)
  exact pr_some
  refine pr_ite (fun c8 => ?_) (fun c8 => ?_)
  exact pr_some
  refine pr_ite (fun c16 => ?_) (fun c16 => ?_)
  exact pr_some
  exact pr_some
theorem g_X17_isIn_pr {x0 x2 : Int} {D : ga_D} : ga_pr D (g_X17_isIn x0 x2 D) := by
  unfold g_X17_isIn
  refine pr_ite (fun c3 => ?_) (fun c3 => ?_)
  exact pr_some
  refine pr_ite (fun c9 => ?_) (fun c9 => ?_)
  exact pr_some
  exact pr_some
theorem g_X17_bin_pr {x1 x3 : Int} {D : ga_D} : ga_pr D (g_X17_bin x1 x3 D) := by
  unfold g_X17_bin
  refine pr_ite (fun c6 => ?_) (fun c6 => ?_)
  exact pr_some
  refine pr_bind (g_X17_isIn_pr) (fun r13 D13 => ?_)
  refine pr_ite (fun c16 => ?_) (fun c16 => ?_)
  exact pr_some
  refine pr_bind (g_X17_isIn_pr) (fun r24 D24 => ?_)
  refine pr_ite (fun c27 => ?_) (fun c27 => ?_)
  refine pr_ck (fun ha42 => ?_)
  refine pr_upd (ga_Pn K_4829 rfl) (fun D42 => ?_)
  refine pr_ck (fun ha52 => ?_)
  refine pr_upd (ga_Pn K_4830 rfl) (fun D52 => ?_)
  refine pr_upd (ga_Pn K_4828 rfl) (fun D61 => ?_)
  exact pr_some
  exact pr_some
theorem g_X17_way_pr {x1 x2 x3 x4 : Int} {D : ga_D} : ga_pr D (g_X17_way x1 x2 x3 x4 D) := by
  unfold g_X17_way
  refine pr_bind (g_X17_isIn_pr) (fun r7 D7 => ?_)
  refine pr_ite (fun c10 => ?_) (fun c10 => ?_)
  exact pr_some
  refine pr_bind (g_X17_isIn_pr) (fun r20 D20 => ?_)
  refine pr_ite (fun c23 => ?_) (fun c23 => ?_)
  exact pr_some
  refine pr_ite (fun c28 => ?_) (fun c28 => ?_)
  exact pr_some
  refine pr_bind (g_X17_isIn_pr) (fun r36 D36 => ?_)
  refine pr_ite (fun c39 => ?_) (fun c39 => ?_)
  exact pr_some
  refine pr_bind (g_X17_isIn_pr) (fun r47 D47 => ?_)
  refine pr_ite (fun c50 => ?_) (fun c50 => ?_)
  refine pr_ck (fun ha66 => ?_)
  refine pr_upd (ga_Pn K_4831 rfl) (fun D66 => ?_)
  refine pr_ck (fun ha80 => ?_)
  refine pr_upd (ga_Pn K_4832 rfl) (fun D80 => ?_)
  exact pr_some
  exact pr_some
theorem g_X17_vehicle_pr {x1 x3 x4 : Int} {D : ga_D} : ga_pr D (g_X17_vehicle x1 x3 x4 D) := by
  unfold g_X17_vehicle
  refine pr_bind (g_X17_isIn_pr) (fun r4 D4 => ?_)
  refine pr_ite (fun c7 => ?_) (fun c7 => ?_)
  exact pr_some
  refine pr_bind (g_X17_isIn_pr) (fun r15 D15 => ?_)
  refine pr_ite (fun c18 => ?_) (fun c18 => ?_)
  exact pr_some
  refine pr_bind (g_X17_isIn_pr) (fun r27 D27 => ?_)
  refine pr_ite (fun c30 => ?_) (fun c30 => ?_)
  refine pr_upd (ga_Pn K_4828 rfl) (fun D38 => ?_)
  refine pr_upd (ga_Pn K_4828 rfl) (fun D43 => ?_)
  refine pr_upd (ga_Pn K_4828 rfl) (fun D49 => ?_)
  exact pr_some
  exact pr_some
theorem g_X17_isBin_pr {x1 : Int} {D : ga_D} : ga_pr D (g_X17_isBin x1 D) := by
  unfold g_X17_isBin
  refine pr_ite (fun c1 => ?_) (fun c1 => ?_)
  exact pr_some
  refine pr_ite (fun c9 => ?_) (fun c9 => ?_)
  exact pr_some
  exact pr_some
theorem g_X17_branch_pr {x1 x2 x3 : Int} {D : ga_D} : ga_pr D (g_X17_branch x1 x2 x3 D) := by
  unfold g_X17_branch
  refine pr_bind (g_X17_isBin_pr) (fun r2 D2 => ?_)
  refine pr_ite (fun c5 => ?_) (fun c5 => ?_)
  exact pr_some
  refine pr_bind (g_X17_isBin_pr) (fun r10 D10 => ?_)
  refine pr_ite (fun c13 => ?_) (fun c13 => ?_)
  exact pr_some
  refine pr_ite (fun c18 => ?_) (fun c18 => ?_)
  refine pr_ite (fun c42 => ?_) (fun c42 => ?_)
  refine pr_ck (fun ha51 => ?_)
  refine pr_upd (ga_Pn K_4833 rfl) (fun D51 => ?_)
  exact pr_some
  refine pr_ck (fun ha51 => ?_)
  refine pr_upd (ga_Pn K_4833 rfl) (fun D51 => ?_)
  exact pr_some
  exact pr_some
theorem g_X17_clear_l2_pr  {k21 : ga_D → ga_S} (hk21 : ∀ (D : ga_D), ga_pr D (k21 D)) : ∀ (n : Nat) (x1 : Int) (D : ga_D), ga_pr D (g_X17_clear_l2 n x1 D k21) := by
  intro n
  induction n with
  | zero => intro x1 D; exact pr_none
  | succ n ih =>
    intro x1 D
    show ga_pr D (if 36 ≤ x1 then (k21 D) else (ga_ck (0 ≤ x1 ∧ x1 < 36) (ga_let (ga_set D 4833 x1 0) (fun D14 => ga_let (aw_w32 (x1 + 1)) (fun v15 => g_X17_clear_l2 n v15 D14 k21)))))
    refine pr_ite (fun c5 => ?_) (fun c5 => ?_)
    exact hk21 _ 
    refine pr_ck (fun ha14 => ?_)
    refine pr_upd (ga_Pn K_4833 rfl) (fun D14 => ?_)
    refine pr_let (fun v15 => ?_)
    exact ih _ _ 
theorem g_X17_clear_pr {D : ga_D} : ga_pr D (g_X17_clear D) := by
  unfold g_X17_clear
  refine g_X17_clear_l2_pr (fun D21 => ?_) _ _ _ 
  exact pr_some
theorem g_X18_clear_l7_pr  {k27 : ga_D → ga_S} (hk27 : ∀ (D : ga_D), ga_pr D (k27 D)) : ∀ (n : Nat) (x1 : Int) (D : ga_D), ga_pr D (g_X18_clear_l7 n x1 D k27) := by
  intro n
  induction n with
  | zero => intro x1 D; exact pr_none
  | succ n ih =>
    intro x1 D
    show ga_pr D (if 384 ≤ x1 then (k27 D) else (ga_ck (0 ≤ x1 ∧ x1 < 384) (ga_let (ga_set D 4839 x1 (-1)) (fun D20 => ga_let (aw_w32 (x1 + 1)) (fun v21 => g_X18_clear_l7 n v21 D20 k27)))))
    refine pr_ite (fun c11 => ?_) (fun c11 => ?_)
    exact hk27 _ 
    refine pr_ck (fun ha20 => ?_)
    refine pr_upd (ga_Pn K_4839 rfl) (fun D20 => ?_)
    refine pr_let (fun v21 => ?_)
    exact ih _ _ 
theorem g_X18_clear_pr {D : ga_D} : ga_pr D (g_X18_clear D) := by
  unfold g_X18_clear
  refine pr_upd (ga_Pn K_4834 rfl) (fun D2 => ?_)
  refine g_X18_clear_l7_pr (fun D27 => ?_) _ _ _ 
  exact pr_some
theorem g_X17_isTold_pr {x1 x2 : Int} {D : ga_D} : ga_pr D (g_X17_isTold x1 x2 D) := by
  unfold g_X17_isTold
  refine pr_ck (fun ha10 => ?_)
  refine pr_ite (fun c12 => ?_) (fun c12 => ?_)
  exact pr_some
  exact pr_some
theorem g_X17_weightOf_l4_pr  {k33 : Int → ga_D → ga_S} (hk33 : ∀ (x2 : Int) (D : ga_D), ga_pr D (k33 x2 D)) : ∀ (n : Nat) (x1 x2 x3 : Int) (D : ga_D), ga_pr D (g_X17_weightOf_l4 n x1 x2 x3 D k33) := by
  intro n
  induction n with
  | zero => intro x1 x2 x3 D; exact pr_none
  | succ n ih =>
    intro x1 x2 x3 D
    show ga_pr D (if D 4828 2 ≤ x3 then (k33 x2 D) else (ga_ck (0 ≤ x3 ∧ x3 < 6) (ga_let (aw_w32 (x2 + (aw_w32 ((aw_and (aw_shr x1 x3) 1) * (D 4829 x3))))) (fun v26 => ga_let (aw_w32 (x3 + 1)) (fun v27 => g_X17_weightOf_l4 n x1 v26 v27 D k33)))))
    refine pr_ite (fun c9 => ?_) (fun c9 => ?_)
    exact hk33 _ _ 
    refine pr_ck (fun ha23 => ?_)
    refine pr_let (fun v26 => ?_)
    refine pr_let (fun v27 => ?_)
    exact ih _ _ _ _ 
theorem g_X17_weightOf_pr {x1 : Int} {D : ga_D} : ga_pr D (g_X17_weightOf x1 D) := by
  unfold g_X17_weightOf
  refine g_X17_weightOf_l4_pr (fun x2 D33 => ?_) _ _ _ _ _ 
  exact pr_some
theorem g_X18_beats_pr {x1 x2 x3 x4 : Int} {D : ga_D} : ga_pr D (g_X18_beats x1 x2 x3 x4 D) := by
  unfold g_X18_beats
  refine pr_ck (fun ha5 => ?_)
  refine pr_ite (fun c8 => ?_) (fun c8 => ?_)
  exact pr_some
  refine pr_ck (fun ha16 => ?_)
  refine pr_ite (fun c18 => ?_) (fun c18 => ?_)
  exact pr_some
  refine pr_ck (fun ha26 => ?_)
  refine pr_ite (fun c28 => ?_) (fun c28 => ?_)
  exact pr_some
  refine pr_ck (fun ha36 => ?_)
  refine pr_ite (fun c38 => ?_) (fun c38 => ?_)
  exact pr_some
  exact pr_some
theorem g_X18_offer_l17_pr  {k37 : ga_D → ga_S} {k50 : Int → Int → Int → Int → ga_D → ga_S} (hk37 : ∀ (D : ga_D), ga_pr D (k37 D)) (hk50 : ∀ (x3 x4 x5 x6 : Int) (D : ga_D), ga_pr D (k50 x3 x4 x5 x6 D)) : ∀ (n : Nat) (x3 x4 x5 x6 x7 : Int) (D : ga_D), ga_pr D (g_X18_offer_l17 n x3 x4 x5 x6 x7 D k37 k50) := by
  intro n
  induction n with
  | zero => intro x3 x4 x5 x6 x7 D; exact pr_none
  | succ n ih =>
    intro x3 x4 x5 x6 x7 D
    show ga_pr D (if x7 = (-1) then (k50 x3 x4 x5 x6 D) else (ga_bind (g_X18_beats x7 x3 x4 x5 D) (fun r31 D31 => if r31 = 0 then (ga_ck (0 ≤ x7 ∧ x7 < 2000) (ga_let (D31 4838 x7) (fun v45 => g_X18_offer_l17 n x3 x4 x5 x6 v45 D31 k37 k50))) else (k37 D31))))
    refine pr_ite (fun c20 => ?_) (fun c20 => ?_)
    exact hk50 _ _ _ _ _ 
    refine pr_bind (g_X18_beats_pr) (fun r31 D31 => ?_)
    refine pr_ite (fun c34 => ?_) (fun c34 => ?_)
    refine pr_ck (fun ha44 => ?_)
    refine pr_let (fun v45 => ?_)
    exact ih _ _ _ _ _ _ 
    exact hk37 _ 
theorem g_X18_offer_pr {x1 x2 x3 x4 x5 : Int} {D : ga_D} : ga_pr D (g_X18_offer x1 x2 x3 x4 x5 D) := by
  unfold g_X18_offer
  refine pr_let (fun v6 => ?_)
  refine pr_ck (fun ha14 => ?_)
  refine pr_let (fun v15 => ?_)
  refine g_X18_offer_l17_pr (fun D37 => ?_) (fun x3 x4 x5 x6 D50 => ?_) _ _ _ _ _ _ _ 
  exact pr_some
  refine pr_ck (fun ha59 => ?_)
  refine pr_upd (ga_Pn K_4835 rfl) (fun D59 => ?_)
  refine pr_ck (fun ha70 => ?_)
  refine pr_upd (ga_Pn K_4836 rfl) (fun D70 => ?_)
  refine pr_ck (fun ha81 => ?_)
  refine pr_upd (ga_Pn K_4837 rfl) (fun D81 => ?_)
  refine pr_ck (fun ha96 => ?_)
  refine pr_ck (fun ha97 => ?_)
  refine pr_upd (ga_Pn K_4838 rfl) (fun D97 => ?_)
  refine pr_upd (ga_Pn K_4834 rfl) (fun D112 => ?_)
  refine pr_ck (fun ha115 => ?_)
  refine pr_upd (ga_Pn K_4839 rfl) (fun D115 => ?_)
  exact pr_some
theorem g_X17_grow_j169_pr  {k3 : Int → Int → Int → Int → ga_D → ga_S} (hk3 : ∀ (x1 x2 x3 x4 : Int) (D : ga_D), ga_pr D (k3 x1 x2 x3 x4 D)) (x1 x2 x3 x4 x7 x8 s0 s1 s2 : Int) (D : ga_D) : ga_pr D (g_X17_grow_j169 x1 x2 x3 x4 x7 x8 s0 s1 s2 D k3) := by
  unfold g_X17_grow_j169
  refine pr_bind (g_X18_offer_pr) (fun r178 D178 => ?_)
  refine pr_let (fun v181 => ?_)
  exact hk3 _ _ _ _ _ 
theorem g_X17_grow_j117_pr  {k3 : Int → Int → Int → Int → ga_D → ga_S} (hk3 : ∀ (x1 x2 x3 x4 : Int) (D : ga_D), ga_pr D (k3 x1 x2 x3 x4 D)) (x1 x2 x3 x4 x5 x6 x7 s0 : Int) (D : ga_D) : ga_pr D (g_X17_grow_j117 x1 x2 x3 x4 x5 x6 x7 s0 D k3) := by
  unfold g_X17_grow_j117
  refine pr_ck (fun ha131 => ?_)
  refine pr_let (fun v133 => ?_)
  refine pr_ite (fun c141 => ?_) (fun c141 => ?_)
  refine pr_let (fun v181 => ?_)
  exact hk3 _ _ _ _ _ 
  refine pr_ite (fun c153 => ?_) (fun c153 => ?_)
  refine pr_ck (fun ha168 => ?_)
  refine g_X17_grow_j169_pr (fun x1 x2 x3 x4 D3 => ?_) _ _ _ _ _ _ _ _ _ _ 
  exact hk3 _ _ _ _ _ 
  refine g_X17_grow_j169_pr (fun x1 x2 x3 x4 D3 => ?_) _ _ _ _ _ _ _ _ _ _ 
  exact hk3 _ _ _ _ _ 
theorem g_X17_grow_j74_pr  {k3 : Int → Int → Int → Int → ga_D → ga_S} (hk3 : ∀ (x1 x2 x3 x4 : Int) (D : ga_D), ga_pr D (k3 x1 x2 x3 x4 D)) (x1 x2 x3 x4 x5 x6 s0 : Int) (D : ga_D) : ga_pr D (g_X17_grow_j74 x1 x2 x3 x4 x5 x6 s0 D k3) := by
  unfold g_X17_grow_j74
  refine pr_ck (fun ha88 => ?_)
  refine pr_ck (fun ha96 => ?_)
  refine pr_let (fun v98 => ?_)
  refine pr_ite (fun c101 => ?_) (fun c101 => ?_)
  refine pr_ck (fun ha116 => ?_)
  refine g_X17_grow_j117_pr (fun x1 x2 x3 x4 D3 => ?_) _ _ _ _ _ _ _ _ _ 
  exact hk3 _ _ _ _ _ 
  refine g_X17_grow_j117_pr (fun x1 x2 x3 x4 D3 => ?_) _ _ _ _ _ _ _ _ _ 
  exact hk3 _ _ _ _ _ 
theorem g_X17_grow_l3_pr  {k187 : ga_D → ga_S} (hk187 : ∀ (D : ga_D), ga_pr D (k187 D)) : ∀ (n : Nat) (x1 x2 x3 x4 : Int) (D : ga_D), ga_pr D (g_X17_grow_l3 n x1 x2 x3 x4 D k187) := by
  intro n
  induction n with
  | zero => intro x1 x2 x3 x4 D; exact pr_none
  | succ n ih =>
    intro x1 x2 x3 x4 D
    show ga_pr D (if D 4828 2 ≤ x4 then (k187 D) else (ga_let (aw_w32 (x2 + 1)) (fun v15 => ga_let (aw_or x1 (aw_shl 1 x4)) (fun v23 => if v23 = x1 then (ga_let (aw_w32 (x4 + 1)) (fun v181 => g_X17_grow_l3 n x1 x2 x3 v181 D k187)) else (ga_bind (g_X17_isTold v15 (aw_w32 (x4 + 1)) D) (fun r38 D38 => if r38 = 0 then (ga_let (aw_w32 (x4 + 1)) (fun v181 => g_X17_grow_l3 n x1 x2 x3 v181 D38 k187)) else (ga_bind (g_X17_weightOf v23 D38) (fun r47 D47 => if D47 4828 5 < r47 then (ga_let (aw_w32 (x4 + 1)) (fun v181 => g_X17_grow_l3 n x1 x2 x3 v181 D47 k187)) else (if 0 ≤ x3 then (ga_ck (0 ≤ x3 ∧ x3 < 2000) (g_X17_grow_j74 x1 x2 x3 x4 v15 v23 (D47 4837 x3) D47 (fun x1 x2 x3 x4 D3 => g_X17_grow_l3 n x1 x2 x3 x4 D3 k187))) else (g_X17_grow_j74 x1 x2 x3 x4 v15 v23 0 D47 (fun x1 x2 x3 x4 D3 => g_X17_grow_l3 n x1 x2 x3 x4 D3 k187)))))))))))
    refine pr_ite (fun c9 => ?_) (fun c9 => ?_)
    exact hk187 _ 
    refine pr_let (fun v15 => ?_)
    refine pr_let (fun v23 => ?_)
    refine pr_ite (fun c28 => ?_) (fun c28 => ?_)
    refine pr_let (fun v181 => ?_)
    exact ih _ _ _ _ _ 
    refine pr_bind (g_X17_isTold_pr) (fun r38 D38 => ?_)
    refine pr_ite (fun c41 => ?_) (fun c41 => ?_)
    refine pr_let (fun v181 => ?_)
    exact ih _ _ _ _ _ 
    refine pr_bind (g_X17_weightOf_pr) (fun r47 D47 => ?_)
    refine pr_ite (fun c54 => ?_) (fun c54 => ?_)
    refine pr_let (fun v181 => ?_)
    exact ih _ _ _ _ _ 
    refine pr_ite (fun c58 => ?_) (fun c58 => ?_)
    refine pr_ck (fun ha73 => ?_)
    refine g_X17_grow_j74_pr (fun x1 x2 x3 x4 D3 => ?_) _ _ _ _ _ _ _ _ 
    exact ih _ _ _ _ _ 
    refine g_X17_grow_j74_pr (fun x1 x2 x3 x4 D3 => ?_) _ _ _ _ _ _ _ _ 
    exact ih _ _ _ _ _ 
theorem g_X17_grow_pr {x1 x2 x3 : Int} {D : ga_D} : ga_pr D (g_X17_grow x1 x2 x3 D) := by
  unfold g_X17_grow
  refine g_X17_grow_l3_pr (fun D187 => ?_) _ _ _ _ _ _ 
  exact pr_some
theorem g_X18_first_pr {x1 x2 : Int} {D : ga_D} : ga_pr D (g_X18_first x1 x2 D) := by
  unfold g_X18_first
  refine pr_ck (fun ha10 => ?_)
  exact pr_some
theorem g_X17_spread_l70_pr  {k99 : Int → Int → Int → ga_D → ga_S} (hk99 : ∀ (x1 x2 x3 : Int) (D : ga_D), ga_pr D (k99 x1 x2 x3 D)) : ∀ (n : Nat) (x1 x2 x3 x4 : Int) (D : ga_D), ga_pr D (g_X17_spread_l70 n x1 x2 x3 x4 D k99) := by
  intro n
  induction n with
  | zero => intro x1 x2 x3 x4 D; exact pr_none
  | succ n ih =>
    intro x1 x2 x3 x4 D
    show ga_pr D (if x4 = (-1) then (k99 x1 x2 x3 D) else (ga_bind (g_X17_grow x2 x3 x4 D) (fun r81 D81 => ga_ck (0 ≤ x4 ∧ x4 < 2000) (ga_let (D81 4838 x4) (fun v94 => g_X17_spread_l70 n x1 x2 x3 v94 D81 k99)))))
    refine pr_ite (fun c73 => ?_) (fun c73 => ?_)
    exact hk99 _ _ _ _ 
    refine pr_bind (g_X17_grow_pr) (fun r81 D81 => ?_)
    refine pr_ck (fun ha93 => ?_)
    refine pr_let (fun v94 => ?_)
    exact ih _ _ _ _ _ 
theorem g_X17_spread_j57_pr  {k30 : Int → Int → Int → ga_D → ga_S} (hk30 : ∀ (x1 x2 x3 : Int) (D : ga_D), ga_pr D (k30 x1 x2 x3 D)) (x2 x3 s0 s1 : Int) (D : ga_D) : ga_pr D (g_X17_spread_j57 x2 x3 s0 s1 D k30) := by
  unfold g_X17_spread_j57
  refine pr_let (fun v58 => ?_)
  refine pr_bind (g_X18_first_pr) (fun r65 D65 => ?_)
  refine g_X17_spread_l70_pr (fun x1 x2 x3 D99 => ?_) _ _ _ _ _ _ 
  refine pr_let (fun v99 => ?_)
  exact hk30 _ _ _ _ 
theorem g_X17_spread_l30_pr  {k105 : Int → Int → ga_D → ga_S} (hk105 : ∀ (x1 x2 : Int) (D : ga_D), ga_pr D (k105 x1 x2 D)) : ∀ (n : Nat) (x1 x2 x3 : Int) (D : ga_D), ga_pr D (g_X17_spread_l30 n x1 x2 x3 D k105) := by
  intro n
  induction n with
  | zero => intro x1 x2 x3 D; exact pr_none
  | succ n ih =>
    intro x1 x2 x3 D
    show ga_pr D (if D 4828 2 ≤ x3 then (k105 x1 x2 D) else (ga_bind (g_X18_first x2 x3 D) (fun r45 D45 => if r45 ≠ (-1) then (g_X17_spread_j57 x2 x3 1 x1 D45 (fun x1 x2 x3 D30 => g_X17_spread_l30 n x1 x2 x3 D30 k105)) else (g_X17_spread_j57 x2 x3 0 x1 D45 (fun x1 x2 x3 D30 => g_X17_spread_l30 n x1 x2 x3 D30 k105)))))
    refine pr_ite (fun c35 => ?_) (fun c35 => ?_)
    exact hk105 _ _ _ 
    refine pr_bind (g_X18_first_pr) (fun r45 D45 => ?_)
    refine pr_ite (fun c49 => ?_) (fun c49 => ?_)
    refine g_X17_spread_j57_pr (fun x1 x2 x3 D30 => ?_) _ _ _ _ _ 
    exact ih _ _ _ _ 
    refine g_X17_spread_j57_pr (fun x1 x2 x3 D30 => ?_) _ _ _ _ _ 
    exact ih _ _ _ _ 
theorem g_X17_spread_l18_pr  {k111 : Int → ga_D → ga_S} (hk111 : ∀ (x1 : Int) (D : ga_D), ga_pr D (k111 x1 D)) : ∀ (n : Nat) (x1 x2 : Int) (D : ga_D), ga_pr D (g_X17_spread_l18 n x1 x2 D k111) := by
  intro n
  induction n with
  | zero => intro x1 x2 D; exact pr_none
  | succ n ih =>
    intro x1 x2 D
    show ga_pr D (if aw_shl 1 (D 4828 2) ≤ x2 then (k111 x1 D) else (g_X17_spread_l30 aw_fu x1 x2 0 D (fun x1 x2 D105 => ga_let (aw_w32 (x2 + 1)) (fun v105 => g_X17_spread_l18 n x1 v105 D105 k111))))
    refine pr_ite (fun c25 => ?_) (fun c25 => ?_)
    exact hk111 _ _ 
    refine g_X17_spread_l30_pr (fun x1 x2 D105 => ?_) _ _ _ _ _ 
    refine pr_let (fun v105 => ?_)
    exact ih _ _ _ 
theorem g_X17_spread_pr {D : ga_D} : ga_pr D (g_X17_spread D) := by
  unfold g_X17_spread
  refine pr_bind (g_X18_clear_pr) (fun r4 D4 => ?_)
  refine pr_bind (g_X17_grow_pr) (fun r11 D11 => ?_)
  refine g_X17_spread_l18_pr (fun x1 D111 => ?_) _ _ _ _ 
  exact pr_some
theorem g_X17_isBarred_j67_pr  {k17 : Int → Int → Int → Int → ga_D → ga_S} (hk17 : ∀ (x1 x2 x3 x4 : Int) (D : ga_D), ga_pr D (k17 x1 x2 x3 x4 D)) (x1 x3 x4 x5 x6 s0 : Int) (D : ga_D) : ga_pr D (g_X17_isBarred_j67 x1 x3 x4 x5 x6 s0 D k17) := by
  unfold g_X17_isBarred_j67
  refine pr_ite (fun c70 => ?_) (fun c70 => ?_)
  refine pr_let (fun v85 => ?_)
  refine pr_let (fun v86 => ?_)
  exact hk17 _ _ _ _ _ 
  refine pr_ite (fun c76 => ?_) (fun c76 => ?_)
  refine pr_let (fun v85 => ?_)
  refine pr_let (fun v86 => ?_)
  exact hk17 _ _ _ _ _ 
  refine pr_let (fun v85 => ?_)
  refine pr_let (fun v86 => ?_)
  exact hk17 _ _ _ _ _ 
theorem g_X17_isBarred_l17_pr  {k92 : Int → Int → Int → ga_D → ga_S} (hk92 : ∀ (x1 x2 x3 : Int) (D : ga_D), ga_pr D (k92 x1 x2 x3 D)) : ∀ (n : Nat) (x1 x2 x3 x4 : Int) (D : ga_D), ga_pr D (g_X17_isBarred_l17 n x1 x2 x3 x4 D k92) := by
  intro n
  induction n with
  | zero => intro x1 x2 x3 x4 D; exact pr_none
  | succ n ih =>
    intro x1 x2 x3 x4 D
    show ga_pr D (if D 4828 2 ≤ x4 then (k92 x1 x2 x3 D) else (ga_let (aw_w32 ((aw_and (aw_shr x1 x3) 1) + (aw_and (aw_shr x1 x4) 1))) (fun v38 => ga_ck (0 ≤ aw_w32 ((aw_w32 (6 * x3)) + x4) ∧ aw_w32 ((aw_w32 (6 * x3)) + x4) < 36) (ga_let (D 4833 (aw_w32 ((aw_w32 (6 * x3)) + x4))) (fun v52 => if v52 ≠ 1 then (g_X17_isBarred_j67 x1 x3 x4 v38 v52 x2 D (fun x1 x2 x3 x4 D17 => g_X17_isBarred_l17 n x1 x2 x3 x4 D17 k92)) else (if v38 = 1 then (ga_let (aw_or x2 1) (fun v85 => ga_let (aw_w32 (x4 + 1)) (fun v86 => g_X17_isBarred_l17 n x1 v85 x3 v86 D k92))) else (g_X17_isBarred_j67 x1 x3 x4 v38 v52 x2 D (fun x1 x2 x3 x4 D17 => g_X17_isBarred_l17 n x1 x2 x3 x4 D17 k92))))))))
    refine pr_ite (fun c23 => ?_) (fun c23 => ?_)
    exact hk92 _ _ _ _ 
    refine pr_let (fun v38 => ?_)
    refine pr_ck (fun ha51 => ?_)
    refine pr_let (fun v52 => ?_)
    refine pr_ite (fun c58 => ?_) (fun c58 => ?_)
    refine g_X17_isBarred_j67_pr (fun x1 x2 x3 x4 D17 => ?_) _ _ _ _ _ _ _ 
    exact ih _ _ _ _ _ 
    refine pr_ite (fun c64 => ?_) (fun c64 => ?_)
    refine pr_let (fun v85 => ?_)
    refine pr_let (fun v86 => ?_)
    exact ih _ _ _ _ _ 
    refine g_X17_isBarred_j67_pr (fun x1 x2 x3 x4 D17 => ?_) _ _ _ _ _ _ _ 
    exact ih _ _ _ _ _ 
theorem g_X17_isBarred_l4_pr  {k98 : Int → ga_D → ga_S} (hk98 : ∀ (x2 : Int) (D : ga_D), ga_pr D (k98 x2 D)) : ∀ (n : Nat) (x1 x2 x3 : Int) (D : ga_D), ga_pr D (g_X17_isBarred_l4 n x1 x2 x3 D k98) := by
  intro n
  induction n with
  | zero => intro x1 x2 x3 D; exact pr_none
  | succ n ih =>
    intro x1 x2 x3 D
    show ga_pr D (if D 4828 2 ≤ x3 then (k98 x2 D) else (ga_let (aw_w32 (x3 + 1)) (fun v15 => g_X17_isBarred_l17 aw_fu x1 x2 x3 v15 D (fun x1 x2 x3 D92 => ga_let (aw_w32 (x3 + 1)) (fun v92 => g_X17_isBarred_l4 n x1 x2 v92 D92 k98)))))
    refine pr_ite (fun c9 => ?_) (fun c9 => ?_)
    exact hk98 _ _ 
    refine pr_let (fun v15 => ?_)
    refine g_X17_isBarred_l17_pr (fun x1 x2 x3 D92 => ?_) _ _ _ _ _ _ 
    refine pr_let (fun v92 => ?_)
    exact ih _ _ _ _ 
theorem g_X17_isBarred_pr {x1 : Int} {D : ga_D} : ga_pr D (g_X17_isBarred x1 D) := by
  unfold g_X17_isBarred
  refine g_X17_isBarred_l4_pr (fun x2 D98 => ?_) _ _ _ _ _ 
  refine pr_ck (fun hr99 => ?_)
  exact pr_some
theorem g_X17_close_j142_pr  {k35 : Int → Int → Int → Int → Int → Int → Int → ga_D → ga_S} (hk35 : ∀ (x1 x2 x3 x4 x5 x6 x7 : Int) (D : ga_D), ga_pr D (k35 x1 x2 x3 x4 x5 x6 x7 D)) (x1 x4 x5 x6 x7 x8 : Int) (D : ga_D) : ga_pr D (g_X17_close_j142 x1 x4 x5 x6 x7 x8 D k35) := by
  unfold g_X17_close_j142
  refine pr_ck (fun ha151 => ?_)
  refine pr_let (fun v152 => ?_)
  refine pr_ck (fun ha165 => ?_)
  refine pr_let (fun v166 => ?_)
  exact hk35 _ _ _ _ _ _ _ _ 
theorem g_X17_close_l35_pr  {k171 : Int → Int → Int → Int → Int → Int → ga_D → ga_S} (hk171 : ∀ (x1 x2 x3 x4 x5 x6 : Int) (D : ga_D), ga_pr D (k171 x1 x2 x3 x4 x5 x6 D)) : ∀ (n : Nat) (x1 x2 x3 x4 x5 x6 x7 : Int) (D : ga_D), ga_pr D (g_X17_close_l35 n x1 x2 x3 x4 x5 x6 x7 D k171) := by
  intro n
  induction n with
  | zero => intro x1 x2 x3 x4 x5 x6 x7 D; exact pr_none
  | succ n ih =>
    intro x1 x2 x3 x4 x5 x6 x7 D
    show ga_pr D (if x7 = (-1) then (k171 x1 x2 x3 x4 x5 x6 D) else (ga_bind (g_X17_isTold (aw_w32 (x4 + 1)) 0 D) (fun r47 D47 => if r47 = 0 then (ga_ck (0 ≤ x7 ∧ x7 < 2000) (ga_let (D47 4838 x7) (fun v166 => g_X17_close_l35 n x1 x2 x3 x4 x5 x6 v166 D47 k171))) else (ga_ck (0 ≤ x7 ∧ x7 < 2000) (ga_ck (0 ≤ aw_w32 (7 * (aw_w32 (x4 + 1))) ∧ aw_w32 (7 * (aw_w32 (x4 + 1))) < 49) (if D47 4828 6 < aw_w32 ((D47 4837 x7) + (D47 4831 (aw_w32 (7 * (aw_w32 (x4 + 1)))))) then (ga_ck (0 ≤ x7 ∧ x7 < 2000) (ga_let (D47 4838 x7) (fun v166 => g_X17_close_l35 n x1 x2 x3 x4 x5 x6 v166 D47 k171))) else (ga_ck (0 ≤ x7 ∧ x7 < 2000) (ga_ck (0 ≤ aw_w32 (7 * (aw_w32 (x4 + 1))) ∧ aw_w32 (7 * (aw_w32 (x4 + 1))) < 49) (ga_let (aw_w32 ((D47 4836 x7) + (D47 4832 (aw_w32 (7 * (aw_w32 (x4 + 1))))))) (fun v106 => if x2 = (-1) then (g_X17_close_j142 x1 x4 x5 1 x7 v106 D47 (fun x1 x2 x3 x4 x5 x6 x7 D35 => g_X17_close_l35 n x1 x2 x3 x4 x5 x6 x7 D35 k171)) else (if v106 < x3 then (g_X17_close_j142 x1 x4 x5 1 x7 v106 D47 (fun x1 x2 x3 x4 x5 x6 x7 D35 => g_X17_close_l35 n x1 x2 x3 x4 x5 x6 x7 D35 k171)) else (if v106 ≠ x3 then (ga_ck (0 ≤ x7 ∧ x7 < 2000) (ga_let (D47 4838 x7) (fun v166 => g_X17_close_l35 n x1 x2 x3 x4 x5 1 v166 D47 k171))) else (ga_ck (0 ≤ x7 ∧ x7 < 2000) (if x2 ≤ D47 4835 x7 then (ga_ck (0 ≤ x7 ∧ x7 < 2000) (ga_let (D47 4838 x7) (fun v166 => g_X17_close_l35 n x1 x2 x3 x4 x5 1 v166 D47 k171))) else (g_X17_close_j142 x1 x4 x5 1 x7 v106 D47 (fun x1 x2 x3 x4 x5 x6 x7 D35 => g_X17_close_l35 n x1 x2 x3 x4 x5 x6 x7 D35 k171))))))))))))))))
    refine pr_ite (fun c38 => ?_) (fun c38 => ?_)
    exact hk171 _ _ _ _ _ _ _ 
    refine pr_bind (g_X17_isTold_pr) (fun r47 D47 => ?_)
    refine pr_ite (fun c50 => ?_) (fun c50 => ?_)
    refine pr_ck (fun ha165 => ?_)
    refine pr_let (fun v166 => ?_)
    exact ih _ _ _ _ _ _ _ _ 
    refine pr_ck (fun ha62 => ?_)
    refine pr_ck (fun ha74 => ?_)
    refine pr_ite (fun c80 => ?_) (fun c80 => ?_)
    refine pr_ck (fun ha165 => ?_)
    refine pr_let (fun v166 => ?_)
    exact ih _ _ _ _ _ _ _ _ 
    refine pr_ck (fun ha92 => ?_)
    refine pr_ck (fun ha104 => ?_)
    refine pr_let (fun v106 => ?_)
    refine pr_ite (fun c113 => ?_) (fun c113 => ?_)
    refine g_X17_close_j142_pr (fun x1 x2 x3 x4 x5 x6 x7 D35 => ?_) _ _ _ _ _ _ _ 
    exact ih _ _ _ _ _ _ _ _ 
    refine pr_ite (fun c119 => ?_) (fun c119 => ?_)
    refine g_X17_close_j142_pr (fun x1 x2 x3 x4 x5 x6 x7 D35 => ?_) _ _ _ _ _ _ _ 
    exact ih _ _ _ _ _ _ _ _ 
    refine pr_ite (fun c125 => ?_) (fun c125 => ?_)
    refine pr_ck (fun ha165 => ?_)
    refine pr_let (fun v166 => ?_)
    exact ih _ _ _ _ _ _ _ _ 
    refine pr_ck (fun ha137 => ?_)
    refine pr_ite (fun c139 => ?_) (fun c139 => ?_)
    refine pr_ck (fun ha165 => ?_)
    refine pr_let (fun v166 => ?_)
    exact ih _ _ _ _ _ _ _ _ 
    refine g_X17_close_j142_pr (fun x1 x2 x3 x4 x5 x6 x7 D35 => ?_) _ _ _ _ _ _ _ 
    exact ih _ _ _ _ _ _ _ _ 
theorem g_X17_close_l7_pr  {k211 : Int → Int → Int → ga_D → ga_S} (hk211 : ∀ (x1 x2 x3 : Int) (D : ga_D), ga_pr D (k211 x1 x2 x3 D)) : ∀ (n : Nat) (x1 x2 x3 x4 : Int) (D : ga_D), ga_pr D (g_X17_close_l7 n x1 x2 x3 x4 D k211) := by
  intro n
  induction n with
  | zero => intro x1 x2 x3 x4 D; exact pr_none
  | succ n ih =>
    intro x1 x2 x3 x4 D
    show ga_pr D (if D 4828 2 ≤ x4 then (k211 x1 x2 x3 D) else (ga_bind (g_X18_first x1 x4 D) (fun r23 D23 => g_X17_close_l35 aw_fu x1 x2 x3 x4 r23 0 r23 D23 (fun x1 x2 x3 x4 x5 x6 D171 => if x5 = (-1) then (ga_let (aw_w32 (x4 + 1)) (fun v205 => g_X17_close_l7 n x1 x2 x3 v205 D171 k211)) else (ga_ck (0 ≤ D171 4828 12 ∧ D171 4828 12 < 192) (ga_let (ga_set D171 4844 (D171 4828 12) x1) (fun D186 => ga_let (ga_set D186 4828 12 (aw_w32 ((D186 4828 12) + 1))) (fun D199 => ga_ck (0 ≤ D186 4828 12 ∧ D186 4828 12 < 192 ∧ 0 ≤ x6 ∧ x6 < 2) (ga_let (ga_set D199 4845 (D186 4828 12) x6) (fun D204 => ga_let (aw_w32 (x4 + 1)) (fun v205 => g_X17_close_l7 n x1 x2 x3 v205 D204 k211)))))))))))
    refine pr_ite (fun c13 => ?_) (fun c13 => ?_)
    exact hk211 _ _ _ _ 
    refine pr_bind (g_X18_first_pr) (fun r23 D23 => ?_)
    refine g_X17_close_l35_pr (fun x1 x2 x3 x4 x5 x6 D171 => ?_) _ _ _ _ _ _ _ _ _ 
    refine pr_ite (fun c174 => ?_) (fun c174 => ?_)
    refine pr_let (fun v205 => ?_)
    exact ih _ _ _ _ _ 
    refine pr_ck (fun ha186 => ?_)
    refine pr_upd (ga_Pn K_4844 rfl) (fun D186 => ?_)
    refine pr_upd (ga_Pn K_4828 rfl) (fun D199 => ?_)
    refine pr_ck (fun ha204 => ?_)
    refine pr_upd (ga_Pn K_4845 rfl) (fun D204 => ?_)
    refine pr_let (fun v205 => ?_)
    exact ih _ _ _ _ _ 
theorem g_X17_close_pr {x1 : Int} {D : ga_D} : ga_pr D (g_X17_close x1 D) := by
  unfold g_X17_close
  refine g_X17_close_l7_pr (fun x1 x2 x3 D211 => ?_) _ _ _ _ _ _ 
  refine pr_ite (fun c213 => ?_) (fun c213 => ?_)
  exact pr_some
  refine pr_ck (fun ha225 => ?_)
  refine pr_upd (ga_Pn K_4846 rfl) (fun D225 => ?_)
  refine pr_ck (fun ha235 => ?_)
  refine pr_upd (ga_Pn K_4847 rfl) (fun D235 => ?_)
  refine pr_ck (fun ha245 => ?_)
  refine pr_upd (ga_Pn K_4848 rfl) (fun D245 => ?_)
  refine pr_bind (g_X17_weightOf_pr) (fun r256 D256 => ?_)
  refine pr_ck (fun ha259 => ?_)
  refine pr_upd (ga_Pn K_4850 rfl) (fun D259 => ?_)
  refine pr_upd (ga_Pn K_4828 rfl) (fun D272 => ?_)
  refine pr_bind (g_X17_isBarred_pr) (fun r277 D277 => ?_)
  refine pr_ck (fun ha280 => ?_)
  refine pr_upd (ga_Pn K_4849 rfl) (fun D280 => ?_)
  exact pr_some
theorem g_X17_findCuts_l7_pr  {k59 : ga_D → ga_S} (hk59 : ∀ (D : ga_D), ga_pr D (k59 D)) : ∀ (n : Nat) (x1 : Int) (D : ga_D), ga_pr D (g_X17_findCuts_l7 n x1 D k59) := by
  intro n
  induction n with
  | zero => intro x1 D; exact pr_none
  | succ n ih =>
    intro x1 D
    show ga_pr D (if aw_shl 1 (D 4828 2) ≤ x1 then (k59 D) else (if D 4828 5 ≤ 0 then (k59 D) else (ga_bind (g_X17_weightOf x1 D) (fun r26 D26 => if r26 ≤ D26 4828 5 then (ga_let (aw_w32 (x1 + 1)) (fun v53 => g_X17_findCuts_l7 n v53 D26 k59)) else (ga_let (ga_set D26 4828 22 (aw_w32 ((D26 4828 22) + 1))) (fun D48 => ga_ck (0 ≤ D26 4828 22 ∧ D26 4828 22 < 63) (ga_let (ga_set D48 4851 (D26 4828 22) x1) (fun D52 => ga_let (aw_w32 (x1 + 1)) (fun v53 => g_X17_findCuts_l7 n v53 D52 k59)))))))))
    refine pr_ite (fun c14 => ?_) (fun c14 => ?_)
    exact hk59 _ 
    refine pr_ite (fun c21 => ?_) (fun c21 => ?_)
    exact hk59 _ 
    refine pr_bind (g_X17_weightOf_pr) (fun r26 D26 => ?_)
    refine pr_ite (fun c33 => ?_) (fun c33 => ?_)
    refine pr_let (fun v53 => ?_)
    exact ih _ _ 
    refine pr_upd (ga_Pn K_4828 rfl) (fun D48 => ?_)
    refine pr_ck (fun ha52 => ?_)
    refine pr_upd (ga_Pn K_4851 rfl) (fun D52 => ?_)
    refine pr_let (fun v53 => ?_)
    exact ih _ _ 
theorem g_X17_findCuts_pr {D : ga_D} : ga_pr D (g_X17_findCuts D) := by
  unfold g_X17_findCuts
  refine pr_upd (ga_Pn K_4828 rfl) (fun D2 => ?_)
  refine g_X17_findCuts_l7_pr (fun D59 => ?_) _ _ _ 
  exact pr_some
theorem g_X19_begin_pr {x1 : Int} {D : ga_D} : ga_pr D (g_X19_begin x1 D) := by
  unfold g_X19_begin
  refine pr_upd (ga_Pn K_4840 rfl) (fun D4 => ?_)
  refine pr_upd (ga_Pn K_4840 rfl) (fun D9 => ?_)
  refine pr_upd (ga_Pn K_4840 rfl) (fun D14 => ?_)
  exact pr_some
theorem g_X19_row_l2_pr  {k29 : Int → ga_D → ga_S} (hk29 : ∀ (x1 : Int) (D : ga_D), ga_pr D (k29 x1 D)) : ∀ (n : Nat) (x1 x3 : Int) (D : ga_D), ga_pr D (g_X19_row_l2 n x1 x3 D k29) := by
  intro n
  induction n with
  | zero => intro x1 x3 D; exact pr_none
  | succ n ih =>
    intro x1 x3 D
    show ga_pr D (if 66 ≤ x3 then (k29 x1 D) else (ga_ck (0 ≤ aw_w32 ((aw_w32 (66 * (D 4840 3))) + x3) ∧ aw_w32 ((aw_w32 (66 * (D 4840 3))) + x3) < 1188) (ga_let (ga_set D 4841 (aw_w32 ((aw_w32 (66 * (D 4840 3))) + x3)) 0) (fun D22 => ga_let (aw_w32 (x3 + 1)) (fun v23 => g_X19_row_l2 n x1 v23 D22 k29)))))
    refine pr_ite (fun c5 => ?_) (fun c5 => ?_)
    exact hk29 _ _ 
    refine pr_ck (fun ha22 => ?_)
    refine pr_upd (ga_Pn K_4841 rfl) (fun D22 => ?_)
    refine pr_let (fun v23 => ?_)
    exact ih _ _ _ 
theorem g_X19_row_pr {x1 : Int} {D : ga_D} : ga_pr D (g_X19_row x1 D) := by
  unfold g_X19_row
  refine g_X19_row_l2_pr (fun x1 D29 => ?_) _ _ _ _ 
  refine pr_ck (fun ha41 => ?_)
  refine pr_upd (ga_Pn K_4841 rfl) (fun D41 => ?_)
  refine pr_upd (ga_Pn K_4840 rfl) (fun D50 => ?_)
  exact pr_some
theorem g_X17_isFree_pr {x1 x2 : Int} {D : ga_D} : ga_pr D (g_X17_isFree x1 x2 D) := by
  unfold g_X17_isFree
  refine pr_ck (fun ha5 => ?_)
  refine pr_ite (fun c6 => ?_) (fun c6 => ?_)
  exact pr_some
  refine pr_ite (fun c11 => ?_) (fun c11 => ?_)
  exact pr_some
  refine pr_ck (fun ha19 => ?_)
  refine pr_ite (fun c24 => ?_) (fun c24 => ?_)
  exact pr_some
  exact pr_some
theorem g_X19_set_pr {x1 x2 x3 : Int} {D : ga_D} : ga_pr D (g_X19_set x1 x2 x3 D) := by
  unfold g_X19_set
  refine pr_ck (fun ha11 => ?_)
  refine pr_upd (ga_Pn K_4841 rfl) (fun D11 => ?_)
  exact pr_some
theorem g_X17_layOut_j135_pr  {k50 : Int → Int → Int → Int → Int → ga_D → ga_S} (hk50 : ∀ (x1 x2 x3 x4 x5 : Int) (D : ga_D), ga_pr D (k50 x1 x2 x3 x4 x5 D)) (x1 x2 x3 x4 x5 s0 s1 s2 : Int) (D : ga_D) : ga_pr D (g_X17_layOut_j135 x1 x2 x3 x4 x5 s0 s1 s2 D k50) := by
  unfold g_X17_layOut_j135
  refine pr_bind (g_X19_set_pr) (fun r135 D135 => ?_)
  refine pr_let (fun v138 => ?_)
  exact hk50 _ _ _ _ _ _ 
theorem g_X17_layOut_j110_pr  {k50 : Int → Int → Int → Int → Int → ga_D → ga_S} (hk50 : ∀ (x1 x2 x3 x4 x5 : Int) (D : ga_D), ga_pr D (k50 x1 x2 x3 x4 x5 D)) (x1 x2 x3 x4 x5 x6 s0 s1 s2 : Int) (D : ga_D) : ga_pr D (g_X17_layOut_j110 x1 x2 x3 x4 x5 x6 s0 s1 s2 D k50) := by
  unfold g_X17_layOut_j110
  refine pr_bind (g_X19_set_pr) (fun r110 D110 => ?_)
  refine pr_ite (fun c125 => ?_) (fun c125 => ?_)
  refine g_X17_layOut_j135_pr (fun x1 x2 x3 x4 x5 D50 => ?_) _ _ _ _ _ _ _ _ _ 
  exact hk50 _ _ _ _ _ _ 
  refine g_X17_layOut_j135_pr (fun x1 x2 x3 x4 x5 D50 => ?_) _ _ _ _ _ _ _ _ _ 
  exact hk50 _ _ _ _ _ _ 
theorem g_X17_layOut_j89_pr  {k50 : Int → Int → Int → Int → Int → ga_D → ga_S} (hk50 : ∀ (x1 x2 x3 x4 x5 : Int) (D : ga_D), ga_pr D (k50 x1 x2 x3 x4 x5 D)) (x1 x2 x3 x4 x5 s0 : Int) (D : ga_D) : ga_pr D (g_X17_layOut_j89 x1 x2 x3 x4 x5 s0 D k50) := by
  unfold g_X17_layOut_j89
  refine pr_ite (fun c102 => ?_) (fun c102 => ?_)
  refine g_X17_layOut_j110_pr (fun x1 x2 x3 x4 x5 D50 => ?_) _ _ _ _ _ _ _ _ _ _ 
  exact hk50 _ _ _ _ _ _ 
  refine g_X17_layOut_j110_pr (fun x1 x2 x3 x4 x5 D50 => ?_) _ _ _ _ _ _ _ _ _ _ 
  exact hk50 _ _ _ _ _ _ 
theorem g_X17_layOut_j88_pr  {k50 : Int → Int → Int → Int → Int → ga_D → ga_S} (hk50 : ∀ (x1 x2 x3 x4 x5 : Int) (D : ga_D), ga_pr D (k50 x1 x2 x3 x4 x5 D)) (x1 x2 x3 x4 x5 : Int) (D : ga_D) : ga_pr D (g_X17_layOut_j88 x1 x2 x3 x4 x5 D k50) := by
  unfold g_X17_layOut_j88
  refine g_X17_layOut_j89_pr (fun x1 x2 x3 x4 x5 D50 => ?_) _ _ _ _ _ _ _ 
  exact hk50 _ _ _ _ _ _ 
theorem g_X17_layOut_l50_pr  {k144 : Int → Int → ga_D → ga_S} (hk144 : ∀ (x1 x2 : Int) (D : ga_D), ga_pr D (k144 x1 x2 D)) : ∀ (n : Nat) (x1 x2 x3 x4 x5 : Int) (D : ga_D), ga_pr D (g_X17_layOut_l50 n x1 x2 x3 x4 x5 D k144) := by
  intro n
  induction n with
  | zero => intro x1 x2 x3 x4 x5 D; exact pr_none
  | succ n ih =>
    intro x1 x2 x3 x4 x5 D
    show ga_pr D (if D 4828 15 ≤ x5 then (k144 x1 x2 D) else (ga_bind (g_X17_isFree x5 x1 D) (fun r63 D63 => if r63 = 0 then (g_X17_layOut_j88 x1 x2 x3 x4 x5 D63 (fun x1 x2 x3 x4 x5 D50 => g_X17_layOut_l50 n x1 x2 x3 x4 x5 D50 k144)) else (ga_ck (0 ≤ x5 ∧ x5 < 63) (if aw_and (aw_shr (D63 4846 x5) x2) 1 ≠ 1 then (g_X17_layOut_j88 x1 x2 x3 x4 x5 D63 (fun x1 x2 x3 x4 x5 D50 => g_X17_layOut_l50 n x1 x2 x3 x4 x5 D50 k144)) else (g_X17_layOut_j89 x1 x2 x3 x4 x5 1 D63 (fun x1 x2 x3 x4 x5 D50 => g_X17_layOut_l50 n x1 x2 x3 x4 x5 D50 k144)))))))
    refine pr_ite (fun c56 => ?_) (fun c56 => ?_)
    exact hk144 _ _ _ 
    refine pr_bind (g_X17_isFree_pr) (fun r63 D63 => ?_)
    refine pr_ite (fun c66 => ?_) (fun c66 => ?_)
    refine g_X17_layOut_j88_pr (fun x1 x2 x3 x4 x5 D50 => ?_) _ _ _ _ _ _ 
    exact ih _ _ _ _ _ _ 
    refine pr_ck (fun ha75 => ?_)
    refine pr_ite (fun c81 => ?_) (fun c81 => ?_)
    refine g_X17_layOut_j88_pr (fun x1 x2 x3 x4 x5 D50 => ?_) _ _ _ _ _ _ 
    exact ih _ _ _ _ _ _ 
    refine g_X17_layOut_j89_pr (fun x1 x2 x3 x4 x5 D50 => ?_) _ _ _ _ _ _ _ 
    exact ih _ _ _ _ _ _ 
theorem g_X17_layOut_l13_pr  {k150 : ga_D → ga_S} (hk150 : ∀ (D : ga_D), ga_pr D (k150 D)) : ∀ (n : Nat) (x1 x2 : Int) (D : ga_D), ga_pr D (g_X17_layOut_l13 n x1 x2 D k150) := by
  intro n
  induction n with
  | zero => intro x1 x2 D; exact pr_none
  | succ n ih =>
    intro x1 x2 D
    show ga_pr D (if D 4828 25 ≤ x2 then (k150 D) else (if x2 = x1 then (ga_let (aw_w32 (x2 + 1)) (fun v144 => g_X17_layOut_l13 n x1 v144 D k150)) else (ga_bind (g_X19_row 1 D) (fun r31 D31 => ga_bind (g_X19_row (-1) D31) (fun r42 D42 => g_X17_layOut_l50 aw_fu x1 x2 r31 r42 0 D42 (fun x1 x2 D144 => ga_let (aw_w32 (x2 + 1)) (fun v144 => g_X17_layOut_l13 n x1 v144 D144 k150)))))))
    refine pr_ite (fun c18 => ?_) (fun c18 => ?_)
    exact hk150 _ 
    refine pr_ite (fun c23 => ?_) (fun c23 => ?_)
    refine pr_let (fun v144 => ?_)
    exact ih _ _ _ 
    refine pr_bind (g_X19_row_pr) (fun r31 D31 => ?_)
    refine pr_bind (g_X19_row_pr) (fun r42 D42 => ?_)
    refine g_X17_layOut_l50_pr (fun x1 x2 D144 => ?_) _ _ _ _ _ _ _ 
    refine pr_let (fun v144 => ?_)
    exact ih _ _ _ 
theorem g_X17_layOut_l165_pr  {k191 : ga_D → ga_S} (hk191 : ∀ (D : ga_D), ga_pr D (k191 D)) : ∀ (n : Nat) (x2 x3 : Int) (D : ga_D), ga_pr D (g_X17_layOut_l165 n x2 x3 D k191) := by
  intro n
  induction n with
  | zero => intro x2 x3 D; exact pr_none
  | succ n ih =>
    intro x2 x3 D
    show ga_pr D (if D 4828 15 ≤ x3 then (k191 D) else (ga_bind (g_X19_set x2 (aw_w32 (1 + x3)) 1 D) (fun r182 D182 => ga_let (aw_w32 (x3 + 1)) (fun v185 => g_X17_layOut_l165 n x2 v185 D182 k191))))
    refine pr_ite (fun c170 => ?_) (fun c170 => ?_)
    exact hk191 _ 
    refine pr_bind (g_X19_set_pr) (fun r182 D182 => ?_)
    refine pr_let (fun v185 => ?_)
    exact ih _ _ _ 
theorem g_X17_layOut_pr {x1 : Int} {D : ga_D} : ga_pr D (g_X17_layOut x1 D) := by
  unfold g_X17_layOut
  refine pr_bind (g_X19_begin_pr) (fun r8 D8 => ?_)
  refine g_X17_layOut_l13_pr (fun D150 => ?_) _ _ _ _ 
  refine pr_bind (g_X19_row_pr) (fun r159 D159 => ?_)
  refine g_X17_layOut_l165_pr (fun D191 => ?_) _ _ _ _ 
  exact pr_some
theorem g_X20_clear_pr {x0 : Int} {D : ga_D} : ga_pr D (g_X20_clear x0 D) := by
  unfold g_X20_clear
  refine pr_ck (fun hk2_0 => ?_)
  refine pr_upd (ga_Pn hk2_0 rfl) (fun D2 => ?_)
  refine pr_upd (ga_Pn hk2_0 rfl) (fun D7 => ?_)
  exact pr_some
theorem g_X19_at_pr {x1 x2 : Int} {D : ga_D} : ga_pr D (g_X19_at x1 x2 D) := by
  unfold g_X19_at
  refine pr_ck (fun ha10 => ?_)
  exact pr_some
theorem g_X19_swap_j89_pr  {k31 : Int → Int → Int → Int → Int → Int → ga_D → ga_S} (hk31 : ∀ (x1 x2 x3 x5 x6 x8 : Int) (D : ga_D), ga_pr D (k31 x1 x2 x3 x5 x6 x8 D)) (x1 x2 x3 x5 x6 x8 s0 s1 s2 : Int) (D : ga_D) : ga_pr D (g_X19_swap_j89 x1 x2 x3 x5 x6 x8 s0 s1 s2 D k31) := by
  unfold g_X19_swap_j89
  refine pr_bind (g_X19_set_pr) (fun r89 D89 => ?_)
  refine pr_let (fun v92 => ?_)
  exact hk31 _ _ _ _ _ _ _ 
theorem g_X19_swap_l31_pr  {k98 : Int → Int → Int → Int → ga_D → ga_S} (hk98 : ∀ (x1 x2 x3 x5 : Int) (D : ga_D), ga_pr D (k98 x1 x2 x3 x5 D)) : ∀ (n : Nat) (x1 x2 x3 x5 x6 x8 : Int) (D : ga_D), ga_pr D (g_X19_swap_l31 n x1 x2 x3 x5 x6 x8 D k98) := by
  intro n
  induction n with
  | zero => intro x1 x2 x3 x5 x6 x8 D; exact pr_none
  | succ n ih =>
    intro x1 x2 x3 x5 x6 x8 D
    show ga_pr D (if D 4840 4 ≤ x8 then (k98 x1 x2 x3 x5 D) else (if x5 = x1 then (k98 x1 x2 x3 x5 D) else (if x8 ≠ x2 then (ga_bind (g_X19_at x5 x8 D) (fun r68 D68 => ga_bind (g_X19_at x1 x8 D68) (fun r79 D79 => ga_ck (D79 4840 5 ≠ 0) (g_X19_swap_j89 x1 x2 x3 x5 x6 x8 (aw_w64 (Int.tdiv (aw_w64 ((aw_w64 (r68 * x3)) - (aw_w64 (x6 * r79)))) (D79 4840 5))) x8 x5 D79 (fun x1 x2 x3 x5 x6 x8 D31 => g_X19_swap_l31 n x1 x2 x3 x5 x6 x8 D31 k98))))) else (g_X19_swap_j89 x1 x2 x3 x5 x6 x8 (aw_w64 (-x6)) x8 x5 D (fun x1 x2 x3 x5 x6 x8 D31 => g_X19_swap_l31 n x1 x2 x3 x5 x6 x8 D31 k98)))))
    refine pr_ite (fun c37 => ?_) (fun c37 => ?_)
    exact hk98 _ _ _ _ _ 
    refine pr_ite (fun c43 => ?_) (fun c43 => ?_)
    exact hk98 _ _ _ _ _ 
    refine pr_ite (fun c54 => ?_) (fun c54 => ?_)
    refine pr_bind (g_X19_at_pr) (fun r68 D68 => ?_)
    refine pr_bind (g_X19_at_pr) (fun r79 D79 => ?_)
    refine pr_ck (fun hz88 => ?_)
    refine g_X19_swap_j89_pr (fun x1 x2 x3 x5 x6 x8 D31 => ?_) _ _ _ _ _ _ _ _ _ _ 
    exact ih _ _ _ _ _ _ _ 
    refine g_X19_swap_j89_pr (fun x1 x2 x3 x5 x6 x8 D31 => ?_) _ _ _ _ _ _ _ _ _ _ 
    exact ih _ _ _ _ _ _ _ 
theorem g_X19_swap_l10_pr  {k104 : Int → Int → Int → ga_D → ga_S} (hk104 : ∀ (x1 x2 x3 : Int) (D : ga_D), ga_pr D (k104 x1 x2 x3 D)) : ∀ (n : Nat) (x1 x2 x3 x5 : Int) (D : ga_D), ga_pr D (g_X19_swap_l10 n x1 x2 x3 x5 D k104) := by
  intro n
  induction n with
  | zero => intro x1 x2 x3 x5 D; exact pr_none
  | succ n ih =>
    intro x1 x2 x3 x5 D
    show ga_pr D (if D 4840 3 ≤ x5 then (k104 x1 x2 x3 D) else (ga_bind (g_X19_at x5 x2 D) (fun r23 D23 => g_X19_swap_l31 aw_fu x1 x2 x3 x5 r23 0 D23 (fun x1 x2 x3 x5 D98 => ga_let (aw_w32 (x5 + 1)) (fun v98 => g_X19_swap_l10 n x1 x2 x3 v98 D98 k104)))))
    refine pr_ite (fun c16 => ?_) (fun c16 => ?_)
    exact hk104 _ _ _ _ 
    refine pr_bind (g_X19_at_pr) (fun r23 D23 => ?_)
    refine g_X19_swap_l31_pr (fun x1 x2 x3 x5 D98 => ?_) _ _ _ _ _ _ _ _ 
    refine pr_let (fun v98 => ?_)
    exact ih _ _ _ _ _ 
theorem g_X19_swap_j173_pr  (x1 x2 : Int) (D : ga_D) : ga_pr D (g_X19_swap_j173 x1 x2 D) := by
  unfold g_X19_swap_j173
  refine pr_ck (fun ha178 => ?_)
  refine pr_let (fun v179 => ?_)
  refine pr_ck (fun ha191 => ?_)
  refine pr_ck (fun ha192 => ?_)
  refine pr_upd (ga_Pn K_4842 rfl) (fun D192 => ?_)
  refine pr_ck (fun ha200 => ?_)
  refine pr_upd (ga_Pn K_4843 rfl) (fun D200 => ?_)
  exact pr_some
theorem g_X19_swap_l140_pr  {k173 : Int → Int → ga_D → ga_S} (hk173 : ∀ (x1 x2 : Int) (D : ga_D), ga_pr D (k173 x1 x2 D)) : ∀ (n : Nat) (x1 x2 x5 : Int) (D : ga_D), ga_pr D (g_X19_swap_l140 n x1 x2 x5 D k173) := by
  intro n
  induction n with
  | zero => intro x1 x2 x5 D; exact pr_none
  | succ n ih =>
    intro x1 x2 x5 D
    show ga_pr D (if aw_w32 (66 * (D 4840 3)) ≤ x5 then (k173 x1 x2 D) else (ga_ck (0 ≤ x5 ∧ x5 < 1188) (ga_ck (0 ≤ x5 ∧ x5 < 1188) (ga_let (ga_set D 4841 x5 (aw_w64 (-(D 4841 x5)))) (fun D166 => ga_let (aw_w32 (x5 + 1)) (fun v167 => g_X19_swap_l140 n x1 x2 v167 D166 k173))))))
    refine pr_ite (fun c149 => ?_) (fun c149 => ?_)
    exact hk173 _ _ _ 
    refine pr_ck (fun ha164 => ?_)
    refine pr_ck (fun ha166 => ?_)
    refine pr_upd (ga_Pn K_4841 rfl) (fun D166 => ?_)
    refine pr_let (fun v167 => ?_)
    exact ih _ _ _ _ 
theorem g_X19_swap_pr {x1 x2 : Int} {D : ga_D} : ga_pr D (g_X19_swap x1 x2 D) := by
  unfold g_X19_swap
  refine pr_bind (g_X19_at_pr) (fun r3 D3 => ?_)
  refine g_X19_swap_l10_pr (fun x1 x2 x3 D104 => ?_) _ _ _ _ _ _ 
  refine pr_bind (g_X19_set_pr) (fun r111 D111 => ?_)
  refine pr_upd (ga_Pn K_4840 rfl) (fun D116 => ?_)
  refine pr_ite (fun c125 => ?_) (fun c125 => ?_)
  refine g_X19_swap_j173_pr _ _ _ 
  refine pr_upd (ga_Pn K_4840 rfl) (fun D134 => ?_)
  refine g_X19_swap_l140_pr (fun x1 x2 D173 => ?_) _ _ _ _ _ 
  refine g_X19_swap_j173_pr _ _ _ 
theorem g_X19_helping_l4_pr  {k54 : Int → ga_D → ga_S} (hk54 : ∀ (x2 : Int) (D : ga_D), ga_pr D (k54 x2 D)) : ∀ (n : Nat) (x1 x2 x3 : Int) (D : ga_D), ga_pr D (g_X19_helping_l4 n x1 x2 x3 D k54) := by
  intro n
  induction n with
  | zero => intro x1 x2 x3 D; exact pr_none
  | succ n ih =>
    intro x1 x2 x3 D
    show ga_pr D (if D 4840 4 ≤ x3 then (k54 x2 D) else (ga_bind (g_X19_at x1 x3 D) (fun r15 D15 => if 0 ≤ r15 then (ga_let (aw_w32 (x3 + 1)) (fun v48 => g_X19_helping_l4 n x1 x2 v48 D15 k54)) else (if x2 = 0 then (ga_let (aw_w32 (x3 + 1)) (fun v48 => g_X19_helping_l4 n x1 x3 v48 D15 k54)) else (ga_ck (0 ≤ x3 ∧ x3 < 66) (ga_ck (0 ≤ x2 ∧ x2 < 66) (if D15 4843 x2 ≤ D15 4843 x3 then (ga_let (aw_w32 (x3 + 1)) (fun v48 => g_X19_helping_l4 n x1 x2 v48 D15 k54)) else (ga_let (aw_w32 (x3 + 1)) (fun v48 => g_X19_helping_l4 n x1 x3 v48 D15 k54)))))))))
    refine pr_ite (fun c9 => ?_) (fun c9 => ?_)
    exact hk54 _ _ 
    refine pr_bind (g_X19_at_pr) (fun r15 D15 => ?_)
    refine pr_ite (fun c20 => ?_) (fun c20 => ?_)
    refine pr_let (fun v48 => ?_)
    exact ih _ _ _ _ 
    refine pr_ite (fun c24 => ?_) (fun c24 => ?_)
    refine pr_let (fun v48 => ?_)
    exact ih _ _ _ _ 
    refine pr_ck (fun ha32 => ?_)
    refine pr_ck (fun ha38 => ?_)
    refine pr_ite (fun c39 => ?_) (fun c39 => ?_)
    refine pr_let (fun v48 => ?_)
    exact ih _ _ _ _ 
    refine pr_let (fun v48 => ?_)
    exact ih _ _ _ _ 
theorem g_X19_helping_pr {x1 : Int} {D : ga_D} : ga_pr D (g_X19_helping x1 D) := by
  unfold g_X19_helping
  refine g_X19_helping_l4_pr (fun x2 D54 => ?_) _ _ _ _ _ 
  exact pr_some
theorem g_X19_stopping_j62_pr  {k5 : Int → Int → Int → Int → ga_D → ga_S} (hk5 : ∀ (x1 x2 x3 x4 : Int) (D : ga_D), ga_pr D (k5 x1 x2 x3 x4 D)) (x1 x2 x3 x4 s0 : Int) (D : ga_D) : ga_pr D (g_X19_stopping_j62 x1 x2 x3 x4 s0 D k5) := by
  unfold g_X19_stopping_j62
  refine pr_ite (fun c68 => ?_) (fun c68 => ?_)
  refine pr_let (fun v101 => ?_)
  exact hk5 _ _ _ _ _ 
  refine pr_ite (fun c75 => ?_) (fun c75 => ?_)
  refine pr_let (fun v101 => ?_)
  exact hk5 _ _ _ _ _ 
  refine pr_ck (fun ha84 => ?_)
  refine pr_ck (fun ha90 => ?_)
  refine pr_ite (fun c91 => ?_) (fun c91 => ?_)
  refine pr_let (fun v101 => ?_)
  exact hk5 _ _ _ _ _ 
  refine pr_let (fun v101 => ?_)
  exact hk5 _ _ _ _ _ 
theorem g_X19_stopping_l5_pr  {k107 : Int → ga_D → ga_S} (hk107 : ∀ (x3 : Int) (D : ga_D), ga_pr D (k107 x3 D)) : ∀ (n : Nat) (x1 x2 x3 x4 : Int) (D : ga_D), ga_pr D (g_X19_stopping_l5 n x1 x2 x3 x4 D k107) := by
  intro n
  induction n with
  | zero => intro x1 x2 x3 x4 D; exact pr_none
  | succ n ih =>
    intro x1 x2 x3 x4 D
    show ga_pr D (if x2 ≤ x4 then (k107 x3 D) else (ga_bind (g_X19_at x4 x1 D) (fun r15 D15 => if r15 ≤ 0 then (ga_let (aw_w32 (x4 + 1)) (fun v101 => g_X19_stopping_l5 n x1 x2 x3 v101 D15 k107)) else (if 0 ≤ x3 then (ga_bind (g_X19_at x4 0 D15) (fun r37 D37 => ga_bind (g_X19_at x3 x1 D37) (fun r43 D43 => ga_bind (g_X19_at x3 0 D43) (fun r50 D50 => ga_bind (g_X19_at x4 x1 D50) (fun r57 D57 => g_X19_stopping_j62 x1 x2 x3 x4 (aw_w64 ((aw_w64 (r37 * r43)) - (aw_w64 (r50 * r57)))) D57 (fun x1 x2 x3 x4 D5 => g_X19_stopping_l5 n x1 x2 x3 x4 D5 k107)))))) else (g_X19_stopping_j62 x1 x2 x3 x4 (-1) D15 (fun x1 x2 x3 x4 D5 => g_X19_stopping_l5 n x1 x2 x3 x4 D5 k107))))))
    refine pr_ite (fun c8 => ?_) (fun c8 => ?_)
    exact hk107 _ _ 
    refine pr_bind (g_X19_at_pr) (fun r15 D15 => ?_)
    refine pr_ite (fun c20 => ?_) (fun c20 => ?_)
    refine pr_let (fun v101 => ?_)
    exact ih _ _ _ _ _ 
    refine pr_ite (fun c24 => ?_) (fun c24 => ?_)
    refine pr_bind (g_X19_at_pr) (fun r37 D37 => ?_)
    refine pr_bind (g_X19_at_pr) (fun r43 D43 => ?_)
    refine pr_bind (g_X19_at_pr) (fun r50 D50 => ?_)
    refine pr_bind (g_X19_at_pr) (fun r57 D57 => ?_)
    refine g_X19_stopping_j62_pr (fun x1 x2 x3 x4 D5 => ?_) _ _ _ _ _ _ 
    exact ih _ _ _ _ _ 
    refine g_X19_stopping_j62_pr (fun x1 x2 x3 x4 D5 => ?_) _ _ _ _ _ _ 
    exact ih _ _ _ _ _ 
theorem g_X19_stopping_pr {x1 x2 : Int} {D : ga_D} : ga_pr D (g_X19_stopping x1 x2 D) := by
  unfold g_X19_stopping
  refine g_X19_stopping_l5_pr (fun x3 D107 => ?_) _ _ _ _ _ _ 
  exact pr_some
theorem g_X19_climb_l6_pr  {k30 : ga_D → ga_S} (hk30 : ∀ (D : ga_D), ga_pr D (k30 D)) : ∀ (n : Nat) (x1 x2 x3 : Int) (D : ga_D), ga_pr D (g_X19_climb_l6 n x1 x2 x3 D k30) := by
  intro n
  induction n with
  | zero => intro x1 x2 x3 D; exact pr_none
  | succ n ih =>
    intro x1 x2 x3 D
    show ga_pr D (if x3 ≤ 0 then (k30 D) else (ga_bind (g_X19_stopping x3 x2 D) (fun r14 D14 => ga_bind (g_X19_swap r14 x3 D14) (fun r18 D18 => ga_bind (g_X19_helping x1 D18) (fun r23 D23 => g_X19_climb_l6 n x1 x2 r23 D23 k30)))))
    refine pr_ite (fun c7 => ?_) (fun c7 => ?_)
    exact hk30 _ 
    refine pr_bind (g_X19_stopping_pr) (fun r14 D14 => ?_)
    refine pr_bind (g_X19_swap_pr) (fun r18 D18 => ?_)
    refine pr_bind (g_X19_helping_pr) (fun r23 D23 => ?_)
    exact ih _ _ _ _ 
theorem g_X19_climb_pr {x1 x2 : Int} {D : ga_D} : ga_pr D (g_X19_climb x1 x2 D) := by
  unfold g_X19_climb
  refine pr_bind (g_X19_helping_pr) (fun r2 D2 => ?_)
  refine g_X19_climb_l6_pr (fun D30 => ?_) _ _ _ _ _ 
  exact pr_some
theorem g_X19_leave_l20_pr  {k38 : Int → Int → Int → Int → ga_D → ga_S} (hk38 : ∀ (x1 x2 x3 x4 : Int) (D : ga_D), ga_pr D (k38 x1 x2 x3 x4 D)) : ∀ (n : Nat) (x1 x2 x3 x4 : Int) (D : ga_D), ga_pr D (g_X19_leave_l20 n x1 x2 x3 x4 D k38) := by
  intro n
  induction n with
  | zero => intro x1 x2 x3 x4 D; exact pr_none
  | succ n ih =>
    intro x1 x2 x3 x4 D
    show ga_pr D (ga_bind (g_X19_at x3 x4 D) (fun r24 D24 => if r24 ≠ 0 then (k38 x1 x2 x3 x4 D24) else (ga_let (aw_w32 (x4 + 1)) (fun v32 => g_X19_leave_l20 n x1 x2 x3 v32 D24 k38))))
    refine pr_bind (g_X19_at_pr) (fun r24 D24 => ?_)
    refine pr_ite (fun c29 => ?_) (fun c29 => ?_)
    exact hk38 _ _ _ _ _ 
    refine pr_let (fun v32 => ?_)
    exact ih _ _ _ _ _ 
theorem g_X19_leave_l2_pr  {k51 : Int → Int → ga_D → ga_S} (hk51 : ∀ (x1 x2 : Int) (D : ga_D), ga_pr D (k51 x1 x2 D)) : ∀ (n : Nat) (x1 x2 x3 : Int) (D : ga_D), ga_pr D (g_X19_leave_l2 n x1 x2 x3 D k51) := by
  intro n
  induction n with
  | zero => intro x1 x2 x3 D; exact pr_none
  | succ n ih =>
    intro x1 x2 x3 D
    show ga_pr D (if x1 ≤ x3 then (k51 x1 x2 D) else (ga_ck (0 ≤ x3 ∧ x3 < 18) (if D 4842 x3 ≠ x2 then (ga_let (aw_w32 (x3 + 1)) (fun v45 => g_X19_leave_l2 n x1 x2 v45 D k51)) else (g_X19_leave_l20 aw_fu x1 x2 x3 1 D (fun x1 x2 x3 x4 D38 => ga_bind (g_X19_swap x3 x4 D38) (fun r42 D42 => ga_let (aw_w32 (x3 + 1)) (fun v45 => g_X19_leave_l2 n x1 x2 v45 D42 k51)))))))
    refine pr_ite (fun c4 => ?_) (fun c4 => ?_)
    exact hk51 _ _ _ 
    refine pr_ck (fun ha12 => ?_)
    refine pr_ite (fun c14 => ?_) (fun c14 => ?_)
    refine pr_let (fun v45 => ?_)
    exact ih _ _ _ _ 
    refine g_X19_leave_l20_pr (fun x1 x2 x3 x4 D38 => ?_) _ _ _ _ _ _ 
    refine pr_bind (g_X19_swap_pr) (fun r42 D42 => ?_)
    refine pr_let (fun v45 => ?_)
    exact ih _ _ _ _ 
theorem g_X19_leave_l53_pr  {k69 : Int → Int → ga_D → ga_S} (hk69 : ∀ (x1 x3 : Int) (D : ga_D), ga_pr D (k69 x1 x3 D)) : ∀ (n : Nat) (x1 x2 x3 : Int) (D : ga_D), ga_pr D (g_X19_leave_l53 n x1 x2 x3 D k69) := by
  intro n
  induction n with
  | zero => intro x1 x2 x3 D; exact pr_none
  | succ n ih =>
    intro x1 x2 x3 D
    show ga_pr D (ga_ck (0 ≤ x3 ∧ x3 < 66) (if D 4843 x3 = x2 then (k69 x1 x3 D) else (ga_let (aw_w32 (x3 + 1)) (fun v63 => g_X19_leave_l53 n x1 x2 v63 D k69))))
    refine pr_ck (fun ha58 => ?_)
    refine pr_ite (fun c60 => ?_) (fun c60 => ?_)
    exact hk69 _ _ _ 
    refine pr_let (fun v63 => ?_)
    exact ih _ _ _ _ 
theorem g_X19_leave_l110_pr  {k140 : Int → Int → ga_D → ga_S} (hk140 : ∀ (x1 x4 : Int) (D : ga_D), ga_pr D (k140 x1 x4 D)) : ∀ (n : Nat) (x1 x4 x5 : Int) (D : ga_D), ga_pr D (g_X19_leave_l110 n x1 x4 x5 D k140) := by
  intro n
  induction n with
  | zero => intro x1 x4 x5 D; exact pr_none
  | succ n ih =>
    intro x1 x4 x5 D
    show ga_pr D (if x1 < x5 then (k140 x1 x4 D) else (ga_bind (g_X19_at x5 (aw_w32 (x4 + 1)) D) (fun r128 D128 => ga_bind (g_X19_set x5 x4 r128 D128) (fun r131 D131 => ga_let (aw_w32 (x5 + 1)) (fun v134 => g_X19_leave_l110 n x1 x4 v134 D131 k140)))))
    refine pr_ite (fun c113 => ?_) (fun c113 => ?_)
    exact hk140 _ _ _ 
    refine pr_bind (g_X19_at_pr) (fun r128 D128 => ?_)
    refine pr_bind (g_X19_set_pr) (fun r131 D131 => ?_)
    refine pr_let (fun v134 => ?_)
    exact ih _ _ _ _ 
theorem g_X19_leave_l82_pr  {k146 : ga_D → ga_S} (hk146 : ∀ (D : ga_D), ga_pr D (k146 D)) : ∀ (n : Nat) (x1 x4 : Int) (D : ga_D), ga_pr D (g_X19_leave_l82 n x1 x4 D k146) := by
  intro n
  induction n with
  | zero => intro x1 x4 D; exact pr_none
  | succ n ih =>
    intro x1 x4 D
    show ga_pr D (if D 4840 4 ≤ x4 then (k146 D) else (ga_ck (0 ≤ aw_w32 (x4 + 1) ∧ aw_w32 (x4 + 1) < 66) (ga_ck (0 ≤ x4 ∧ x4 < 66) (ga_let (ga_set D 4843 x4 (D 4843 (aw_w32 (x4 + 1)))) (fun D106 => g_X19_leave_l110 aw_fu x1 x4 0 D106 (fun x1 x4 D140 => ga_let (aw_w32 (x4 + 1)) (fun v140 => g_X19_leave_l82 n x1 v140 D140 k146)))))))
    refine pr_ite (fun c88 => ?_) (fun c88 => ?_)
    exact hk146 _ 
    refine pr_ck (fun ha105 => ?_)
    refine pr_ck (fun ha106 => ?_)
    refine pr_upd (ga_Pn K_4843 rfl) (fun D106 => ?_)
    refine g_X19_leave_l110_pr (fun x1 x4 D140 => ?_) _ _ _ _ _ 
    refine pr_let (fun v140 => ?_)
    exact ih _ _ _ 
theorem g_X19_leave_pr {x1 x2 : Int} {D : ga_D} : ga_pr D (g_X19_leave x1 x2 D) := by
  unfold g_X19_leave
  refine g_X19_leave_l2_pr (fun x1 x2 D51 => ?_) _ _ _ _ _ 
  refine g_X19_leave_l53_pr (fun x1 x3 D69 => ?_) _ _ _ _ _ 
  refine pr_upd (ga_Pn K_4840 rfl) (fun D76 => ?_)
  refine g_X19_leave_l82_pr (fun D146 => ?_) _ _ _ _ 
  exact pr_some
theorem g_X19_begins_l4_pr  {k37 : Int → Int → ga_D → ga_S} (hk37 : ∀ (x1 x2 : Int) (D : ga_D), ga_pr D (k37 x1 x2 D)) : ∀ (n : Nat) (x1 x2 x3 : Int) (D : ga_D), ga_pr D (g_X19_begins_l4 n x1 x2 x3 D k37) := by
  intro n
  induction n with
  | zero => intro x1 x2 x3 D; exact pr_none
  | succ n ih =>
    intro x1 x2 x3 D
    show ga_pr D (if x1 ≤ x3 then (k37 x1 x2 D) else (ga_bind (g_X19_at x3 0 D) (fun r12 D12 => ga_bind (g_X19_at x2 0 D12) (fun r18 D18 => if r18 ≤ r12 then (ga_let (aw_w32 (x3 + 1)) (fun v31 => g_X19_begins_l4 n x1 x2 v31 D18 k37)) else (ga_let (aw_w32 (x3 + 1)) (fun v31 => g_X19_begins_l4 n x1 x3 v31 D18 k37))))))
    refine pr_ite (fun c6 => ?_) (fun c6 => ?_)
    exact hk37 _ _ _ 
    refine pr_bind (g_X19_at_pr) (fun r12 D12 => ?_)
    refine pr_bind (g_X19_at_pr) (fun r18 D18 => ?_)
    refine pr_ite (fun c22 => ?_) (fun c22 => ?_)
    refine pr_let (fun v31 => ?_)
    exact ih _ _ _ _ 
    refine pr_let (fun v31 => ?_)
    exact ih _ _ _ _ 
theorem g_X19_begins_l76_pr  {k98 : Int → Int → Int → ga_D → ga_S} (hk98 : ∀ (x1 x2 x3 : Int) (D : ga_D), ga_pr D (k98 x1 x2 x3 D)) : ∀ (n : Nat) (x1 x2 x3 x4 : Int) (D : ga_D), ga_pr D (g_X19_begins_l76 n x1 x2 x3 x4 D k98) := by
  intro n
  induction n with
  | zero => intro x1 x2 x3 x4 D; exact pr_none
  | succ n ih =>
    intro x1 x2 x3 x4 D
    show ga_pr D (if x1 ≤ x4 then (k98 x1 x2 x3 D) else (ga_bind (g_X19_set x4 x3 (-1) D) (fun r89 D89 => ga_let (aw_w32 (x4 + 1)) (fun v92 => g_X19_begins_l76 n x1 x2 x3 v92 D89 k98))))
    refine pr_ite (fun c79 => ?_) (fun c79 => ?_)
    exact hk98 _ _ _ _ 
    refine pr_bind (g_X19_set_pr) (fun r89 D89 => ?_)
    refine pr_let (fun v92 => ?_)
    exact ih _ _ _ _ _ 
theorem g_X19_begins_j150_pr  (x1 x3 s0 : Int) (D : ga_D) : ga_pr D (g_X19_begins_j150 x1 x3 s0 D) := by
  unfold g_X19_begins_j150
  refine pr_upd (ga_Pn K_4840 rfl) (fun D159 => ?_)
  refine pr_ite (fun c164 => ?_) (fun c164 => ?_)
  refine pr_ck (fun hr175 => ?_)
  exact pr_some
  refine pr_bind (g_X19_leave_pr) (fun r170 D170 => ?_)
  refine pr_ck (fun hr175 => ?_)
  exact pr_some
theorem g_X19_begins_pr {x1 : Int} {D : ga_D} : ga_pr D (g_X19_begins x1 D) := by
  unfold g_X19_begins
  refine g_X19_begins_l4_pr (fun x1 x2 D37 => ?_) _ _ _ _ _ 
  refine pr_ite (fun c38 => ?_) (fun c38 => ?_)
  exact pr_some
  refine pr_bind (g_X19_at_pr) (fun r44 D44 => ?_)
  refine pr_ite (fun c49 => ?_) (fun c49 => ?_)
  refine pr_upd (ga_Pn K_4840 rfl) (fun D62 => ?_)
  refine pr_let (fun v65 => ?_)
  refine pr_ck (fun ha72 => ?_)
  refine pr_upd (ga_Pn K_4843 rfl) (fun D72 => ?_)
  refine g_X19_begins_l76_pr (fun x1 x2 x3 D98 => ?_) _ _ _ _ _ _ 
  refine pr_bind (g_X19_row_pr) (fun r100 D100 => ?_)
  refine pr_bind (g_X19_set_pr) (fun r110 D110 => ?_)
  refine pr_bind (g_X19_set_pr) (fun r117 D117 => ?_)
  refine pr_bind (g_X19_swap_pr) (fun r123 D123 => ?_)
  refine pr_bind (g_X19_climb_pr) (fun r130 D130 => ?_)
  refine pr_bind (g_X19_at_pr) (fun r137 D137 => ?_)
  refine pr_ite (fun c142 => ?_) (fun c142 => ?_)
  refine g_X19_begins_j150_pr _ _ _ _ 
  refine g_X19_begins_j150_pr _ _ _ _ 
  exact pr_some
theorem g_X20_set_l9_pr  {k34 : Int → Int → Int → Int → ga_D → ga_S} (hk34 : ∀ (x0 x1 x3 x5 : Int) (D : ga_D), ga_pr D (k34 x0 x1 x3 x5 D)) : ∀ (n : Nat) (x0 x1 x3 x5 x7 : Int) (D : ga_D), ga_pr D (g_X20_set_l9 n x0 x1 x3 x5 x7 D k34) := by
  intro n
  induction n with
  | zero => intro x0 x1 x3 x5 x7 D; exact pr_none
  | succ n ih =>
    intro x0 x1 x3 x5 x7 D
    show ga_pr D (if x7 = 0 then (k34 x0 x1 x3 x5 D) else (ga_ck (x7 ≠ 0) (ga_let (Int.tmod x5 x7) (fun v21 => g_X20_set_l9 n x0 x1 x3 x7 v21 D k34))))
    refine pr_ite (fun c13 => ?_) (fun c13 => ?_)
    exact hk34 _ _ _ _ _ 
    refine pr_ck (fun hz20 => ?_)
    refine pr_let (fun v21 => ?_)
    exact ih _ _ _ _ _ _ 
theorem g_X20_set_pr {x0 x1 x3 : Int} {D : ga_D} : ga_pr D (g_X20_set x0 x1 x3 D) := by
  unfold g_X20_set
  refine pr_let (fun v4 => ?_)
  refine g_X20_set_l9_pr (fun x0 x1 x3 x5 D34 => ?_) _ _ _ _ _ _ _ 
  refine pr_ck (fun hz38 => ?_)
  refine pr_ck (fun hk39_0 => ?_)
  refine pr_upd (ga_Pn hk39_0 rfl) (fun D39 => ?_)
  refine pr_ck (fun hz46 => ?_)
  refine pr_upd (ga_Pn hk39_0 rfl) (fun D47 => ?_)
  exact pr_some
theorem g_X19_solve_l9_pr  {k30 : Int → Int → ga_D → ga_S} (hk30 : ∀ (x1 x2 : Int) (D : ga_D), ga_pr D (k30 x1 x2 D)) : ∀ (n : Nat) (x1 x2 x3 : Int) (D : ga_D), ga_pr D (g_X19_solve_l9 n x1 x2 x3 D k30) := by
  intro n
  induction n with
  | zero => intro x1 x2 x3 D; exact pr_none
  | succ n ih =>
    intro x1 x2 x3 D
    show ga_pr D (if D 4840 4 ≤ x3 then (k30 x1 x2 D) else (ga_ck (0 ≤ x3 ∧ x3 < 66) (ga_let (ga_set D 4843 x3 x3) (fun D23 => ga_let (aw_w32 (x3 + 1)) (fun v24 => g_X19_solve_l9 n x1 x2 v24 D23 k30)))))
    refine pr_ite (fun c14 => ?_) (fun c14 => ?_)
    exact hk30 _ _ _ 
    refine pr_ck (fun ha23 => ?_)
    refine pr_upd (ga_Pn K_4843 rfl) (fun D23 => ?_)
    refine pr_let (fun v24 => ?_)
    exact ih _ _ _ _ 
theorem g_X19_solve_l32_pr  {k57 : Int → Int → ga_D → ga_S} (hk57 : ∀ (x1 x2 : Int) (D : ga_D), ga_pr D (k57 x1 x2 D)) : ∀ (n : Nat) (x1 x2 x3 : Int) (D : ga_D), ga_pr D (g_X19_solve_l32 n x1 x2 x3 D k57) := by
  intro n
  induction n with
  | zero => intro x1 x2 x3 D; exact pr_none
  | succ n ih =>
    intro x1 x2 x3 D
    show ga_pr D (if x2 ≤ x3 then (k57 x1 x2 D) else (ga_ck (0 ≤ x3 ∧ x3 < 18) (ga_let (ga_set D 4842 x3 (aw_w32 ((aw_w32 ((D 4840 4) + 1)) + x3))) (fun D50 => ga_let (aw_w32 (x3 + 1)) (fun v51 => g_X19_solve_l32 n x1 x2 v51 D50 k57)))))
    refine pr_ite (fun c34 => ?_) (fun c34 => ?_)
    exact hk57 _ _ _ 
    refine pr_ck (fun ha50 => ?_)
    refine pr_upd (ga_Pn K_4842 rfl) (fun D50 => ?_)
    refine pr_let (fun v51 => ?_)
    exact ih _ _ _ _ 
theorem g_X19_solve_pr {x1 : Int} {D : ga_D} : ga_pr D (g_X19_solve x1 D) := by
  unfold g_X19_solve
  refine pr_let (fun v6 => ?_)
  refine g_X19_solve_l9_pr (fun x1 x2 D30 => ?_) _ _ _ _ _ 
  refine g_X19_solve_l32_pr (fun x1 x2 D57 => ?_) _ _ _ _ _ 
  refine pr_bind (g_X20_clear_pr) (fun r58 D58 => ?_)
  refine pr_ck (fun hk58_0 => ?_)
  refine pr_bind (g_X19_begins_pr) (fun r63 D63 => ?_)
  refine pr_ite (fun c66 => ?_) (fun c66 => ?_)
  exact pr_some
  refine pr_bind (g_X19_climb_pr) (fun r72 D72 => ?_)
  refine pr_bind (g_X19_at_pr) (fun r79 D79 => ?_)
  refine pr_bind (g_X20_set_pr) (fun r86 D86 => ?_)
  exact pr_some
theorem g_X17_solve_l17_pr  {k52 : Int → ga_D → ga_S} (hk52 : ∀ (x2 : Int) (D : ga_D), ga_pr D (k52 x2 D)) : ∀ (n : Nat) (x2 x3 x4 : Int) (D : ga_D), ga_pr D (g_X17_solve_l17 n x2 x3 x4 D k52) := by
  intro n
  induction n with
  | zero => intro x2 x3 x4 D; exact pr_none
  | succ n ih =>
    intro x2 x3 x4 D
    show ga_pr D (if D 4828 15 ≤ x4 then (k52 x2 D) else (ga_ck (0 ≤ x4 ∧ x4 < 63) (ga_bind (g_X19_set x3 (aw_w32 (1 + x4)) (D 4848 x4) D) (fun r43 D43 => ga_let (aw_w32 (x4 + 1)) (fun v46 => g_X17_solve_l17 n x2 x3 v46 D43 k52)))))
    refine pr_ite (fun c23 => ?_) (fun c23 => ?_)
    exact hk52 _ _ 
    refine pr_ck (fun ha41 => ?_)
    refine pr_bind (g_X19_set_pr) (fun r43 D43 => ?_)
    refine pr_let (fun v46 => ?_)
    exact ih _ _ _ _ 
theorem g_X17_solve_pr {x1 x2 : Int} {D : ga_D} : ga_pr D (g_X17_solve x1 x2 D) := by
  unfold g_X17_solve
  refine pr_bind (g_X17_layOut_pr) (fun r2 D2 => ?_)
  refine pr_bind (g_X19_row_pr) (fun r10 D10 => ?_)
  refine g_X17_solve_l17_pr (fun x2 D52 => ?_) _ _ _ _ _ 
  refine pr_bind (g_X19_solve_pr) (fun r57 D57 => ?_)
  refine pr_ck (fun hk62_0 => ?_)
  refine pr_upd (ga_Pn hk62_0 rfl) (fun D66 => ?_)
  exact pr_some
theorem g_X20_is_pr {x0 : Int} {D : ga_D} : ga_pr D (g_X20_is x0 D) := by
  unfold g_X20_is
  refine pr_ck (fun hk1_0 => ?_)
  refine pr_ite (fun c6 => ?_) (fun c6 => ?_)
  exact pr_some
  exact pr_some
theorem g_X17_run_l61_pr  {k82 : ga_D → ga_S} (hk82 : ∀ (D : ga_D), ga_pr D (k82 D)) : ∀ (n : Nat) (x3 : Int) (D : ga_D), ga_pr D (g_X17_run_l61 n x3 D k82) := by
  intro n
  induction n with
  | zero => intro x3 D; exact pr_none
  | succ n ih =>
    intro x3 D
    show ga_pr D (if aw_shl 1 (D 4828 2) ≤ x3 then (k82 D) else (ga_bind (g_X17_close x3 D) (fun r73 D73 => ga_let (aw_w32 (x3 + 1)) (fun v76 => g_X17_run_l61 n v76 D73 k82))))
    refine pr_ite (fun c68 => ?_) (fun c68 => ?_)
    exact hk82 _ 
    refine pr_bind (g_X17_close_pr) (fun r73 D73 => ?_)
    refine pr_let (fun v76 => ?_)
    exact ih _ _ 
theorem g_X17_run_pr {x1 : Int} {D : ga_D} : ga_pr D (g_X17_run x1 D) := by
  unfold g_X17_run
  refine pr_bind (g_X17_spread_pr) (fun r1 D1 => ?_)
  refine pr_ite (fun c7 => ?_) (fun c7 => ?_)
  refine pr_upd (ga_Pn K_4828 rfl) (fun D22 => ?_)
  refine pr_upd (ga_Pn K_4828 rfl) (fun D27 => ?_)
  refine pr_upd (ga_Pn K_4828 rfl) (fun D32 => ?_)
  refine pr_upd (ga_Pn K_4828 rfl) (fun D40 => ?_)
  refine pr_upd (ga_Pn K_4828 rfl) (fun D48 => ?_)
  refine pr_upd (ga_Pn K_4828 rfl) (fun D56 => ?_)
  refine g_X17_run_l61_pr (fun D82 => ?_) _ _ _ 
  refine pr_bind (g_X17_findCuts_pr) (fun r83 D83 => ?_)
  refine pr_bind (g_X17_solve_pr) (fun r92 D92 => ?_)
  refine pr_bind (g_X20_is_pr) (fun r99 D99 => ?_)
  refine pr_ite (fun c102 => ?_) (fun c102 => ?_)
  exact pr_some
  exact pr_some
  exact pr_some
theorem g_X17_steps_pr {D : ga_D} : ga_pr D (g_X17_steps D) := by
  unfold g_X17_steps
  exact pr_some
theorem g_X17_columns_pr {D : ga_D} : ga_pr D (g_X17_columns D) := by
  unfold g_X17_columns
  exact pr_some
theorem g_X17_column_pr {x1 x2 : Int} {D : ga_D} : ga_pr D (g_X17_column x1 x2 D) := by
  unfold g_X17_column
  refine pr_bind (g_X17_isColumn_pr) (fun r2 D2 => ?_)
  refine pr_ite (fun c5 => ?_) (fun c5 => ?_)
  exact pr_some
  refine pr_ite (fun c9 => ?_) (fun c9 => ?_)
  exact pr_some
  refine pr_ck (fun ha18 => ?_)
  refine pr_bind (g_J25_bitCount_pr) (fun r19 D19 => ?_)
  refine pr_ite (fun c22 => ?_) (fun c22 => ?_)
  refine pr_ck (fun ha32 => ?_)
  refine pr_ck (fun ha39 => ?_)
  refine pr_bind (g_J25_bitCount_pr) (fun r40 D40 => ?_)
  exact pr_some
  exact pr_some
theorem g_X20_part_pr {x0 x1 : Int} {D : ga_D} : ga_pr D (g_X20_part x0 x1 D) := by
  unfold g_X20_part
  refine pr_ite (fun c1 => ?_) (fun c1 => ?_)
  refine pr_ite (fun c13 => ?_) (fun c13 => ?_)
  exact pr_some
  refine pr_ck (fun hk17_0 => ?_)
  exact pr_some
  refine pr_ck (fun hk5_0 => ?_)
  exact pr_some
theorem g_X17_bound_pr {x1 : Int} {D : ga_D} : ga_pr D (g_X17_bound x1 D) := by
  unfold g_X17_bound
  refine pr_ite (fun c4 => ?_) (fun c4 => ?_)
  exact pr_some
  refine pr_bind (g_X20_part_pr) (fun r12 D12 => ?_)
  exact pr_some
theorem g_X17_dual_j108_pr  (x2 : Int) (D : ga_D) : ga_pr D (g_X17_dual_j108 x2 D) := by
  unfold g_X17_dual_j108
  refine pr_bind (g_X20_part_pr) (fun r113 D113 => ?_)
  exact pr_some
theorem g_X17_dual_pr {x1 x2 : Int} {D : ga_D} : ga_pr D (g_X17_dual x1 x2 D) := by
  unfold g_X17_dual
  refine pr_bind (g_X20_clear_pr) (fun r4 D4 => ?_)
  refine pr_ite (fun c11 => ?_) (fun c11 => ?_)
  refine g_X17_dual_j108_pr _ _ 
  refine pr_ite (fun c15 => ?_) (fun c15 => ?_)
  refine g_X17_dual_j108_pr _ _ 
  refine pr_ite (fun c23 => ?_) (fun c23 => ?_)
  refine g_X17_dual_j108_pr _ _ 
  refine pr_bind (g_X20_is_pr) (fun r30 D30 => ?_)
  refine pr_ite (fun c33 => ?_) (fun c33 => ?_)
  refine g_X17_dual_j108_pr _ _ 
  refine pr_bind (g_X17_solve_pr) (fun r42 D42 => ?_)
  refine pr_bind (g_X20_is_pr) (fun r49 D49 => ?_)
  refine pr_ite (fun c52 => ?_) (fun c52 => ?_)
  refine g_X17_dual_j108_pr _ _ 
  refine pr_bind (g_X20_set_pr) (fun r105 D105 => ?_)
  refine g_X17_dual_j108_pr _ _ 
theorem g_X17_used_j150_pr  (x2 : Int) (D : ga_D) : ga_pr D (g_X17_used_j150 x2 D) := by
  unfold g_X17_used_j150
  refine pr_bind (g_X20_part_pr) (fun r155 D155 => ?_)
  exact pr_some
theorem g_X17_used_j105_pr  {k57 : Int → Int → Int → Int → ga_D → ga_S} (hk57 : ∀ (x1 x2 x3 x4 : Int) (D : ga_D), ga_pr D (k57 x1 x2 x3 x4 D)) (x1 x2 x3 x4 s0 s1 s2 : Int) (D : ga_D) : ga_pr D (g_X17_used_j105 x1 x2 x3 x4 s0 s1 s2 D k57) := by
  unfold g_X17_used_j105
  refine pr_bind (g_X19_set_pr) (fun r105 D105 => ?_)
  refine pr_let (fun v108 => ?_)
  exact hk57 _ _ _ _ _ 
theorem g_X17_used_l57_pr  {k114 : Int → Int → ga_D → ga_S} (hk114 : ∀ (x1 x2 : Int) (D : ga_D), ga_pr D (k114 x1 x2 D)) : ∀ (n : Nat) (x1 x2 x3 x4 : Int) (D : ga_D), ga_pr D (g_X17_used_l57 n x1 x2 x3 x4 D k114) := by
  intro n
  induction n with
  | zero => intro x1 x2 x3 x4 D; exact pr_none
  | succ n ih =>
    intro x1 x2 x3 x4 D
    show ga_pr D (if D 4828 15 ≤ x4 then (k114 x1 x2 D) else (ga_ck (0 ≤ x4 ∧ x4 < 63) (if D 4849 x4 = 0 then (ga_ck (0 ≤ x4 ∧ x4 < 63) (g_X17_used_j105 x1 x2 x3 x4 (aw_w64 ((D 4852 1) * (D 4848 x4))) (aw_w32 (1 + x4)) x3 D (fun x1 x2 x3 x4 D57 => g_X17_used_l57 n x1 x2 x3 x4 D57 k114))) else (g_X17_used_j105 x1 x2 x3 x4 0 (aw_w32 (1 + x4)) x3 D (fun x1 x2 x3 x4 D57 => g_X17_used_l57 n x1 x2 x3 x4 D57 k114)))))
    refine pr_ite (fun c63 => ?_) (fun c63 => ?_)
    exact hk114 _ _ _ 
    refine pr_ck (fun ha81 => ?_)
    refine pr_ite (fun c82 => ?_) (fun c82 => ?_)
    refine pr_ck (fun ha102 => ?_)
    refine g_X17_used_j105_pr (fun x1 x2 x3 x4 D57 => ?_) _ _ _ _ _ _ _ _ 
    exact ih _ _ _ _ _ 
    refine g_X17_used_j105_pr (fun x1 x2 x3 x4 D57 => ?_) _ _ _ _ _ _ _ _ 
    exact ih _ _ _ _ _ 
theorem g_X17_used_pr {x1 x2 : Int} {D : ga_D} : ga_pr D (g_X17_used x1 x2 D) := by
  unfold g_X17_used
  refine pr_bind (g_X20_clear_pr) (fun r4 D4 => ?_)
  refine pr_bind (g_X17_isColumn_pr) (fun r9 D9 => ?_)
  refine pr_ite (fun c12 => ?_) (fun c12 => ?_)
  refine g_X17_used_j150_pr _ _ 
  refine pr_bind (g_X20_is_pr) (fun r19 D19 => ?_)
  refine pr_ite (fun c22 => ?_) (fun c22 => ?_)
  refine g_X17_used_j150_pr _ _ 
  refine pr_ck (fun ha30 => ?_)
  refine pr_ite (fun c31 => ?_) (fun c31 => ?_)
  refine g_X17_used_j150_pr _ _ 
  refine pr_bind (g_X17_layOut_pr) (fun r36 D36 => ?_)
  refine pr_bind (g_X19_row_pr) (fun r50 D50 => ?_)
  refine g_X17_used_l57_pr (fun x1 x2 D114 => ?_) _ _ _ _ _ _ 
  refine pr_bind (g_X19_row_pr) (fun r119 D119 => ?_)
  refine pr_bind (g_X19_set_pr) (fun r136 D136 => ?_)
  refine pr_bind (g_X19_solve_pr) (fun r147 D147 => ?_)
  refine g_X17_used_j150_pr _ _ 
theorem g_X17_share_j41_pr  (x2 : Int) (D : ga_D) : ga_pr D (g_X17_share_j41 x2 D) := by
  unfold g_X17_share_j41
  refine pr_bind (g_X20_part_pr) (fun r46 D46 => ?_)
  exact pr_some
theorem g_X17_share_pr {x1 x2 : Int} {D : ga_D} : ga_pr D (g_X17_share x1 x2 D) := by
  unfold g_X17_share
  refine pr_bind (g_X20_clear_pr) (fun r4 D4 => ?_)
  refine pr_bind (g_X17_isColumn_pr) (fun r9 D9 => ?_)
  refine pr_ite (fun c12 => ?_) (fun c12 => ?_)
  refine g_X17_share_j41_pr _ _ 
  refine pr_ite (fun c19 => ?_) (fun c19 => ?_)
  refine g_X17_share_j41_pr _ _ 
  refine pr_ck (fun ha31 => ?_)
  refine pr_bind (g_X20_set_pr) (fun r38 D38 => ?_)
  refine g_X17_share_j41_pr _ _ 
theorem g_X17_dropped_pr {x1 : Int} {D : ga_D} : ga_pr D (g_X17_dropped x1 D) := by
  unfold g_X17_dropped
  refine pr_ite (fun c4 => ?_) (fun c4 => ?_)
  exact pr_some
  refine pr_ite (fun c8 => ?_) (fun c8 => ?_)
  exact pr_some
  refine pr_ite (fun c16 => ?_) (fun c16 => ?_)
  exact pr_some
  refine pr_ck (fun ha24 => ?_)
  refine pr_ite (fun c25 => ?_) (fun c25 => ?_)
  exact pr_some
  exact pr_some
theorem g_X17_cuts_pr {D : ga_D} : ga_pr D (g_X17_cuts D) := by
  unfold g_X17_cuts
  exact pr_some
theorem g_X17_cut_l41_pr  {k59 : Int → ga_D → ga_S} (hk59 : ∀ (x3 : Int) (D : ga_D), ga_pr D (k59 x3 D)) : ∀ (n : Nat) (x2 x3 x4 : Int) (D : ga_D), ga_pr D (g_X17_cut_l41 n x2 x3 x4 D k59) := by
  intro n
  induction n with
  | zero => intro x2 x3 x4 D; exact pr_none
  | succ n ih =>
    intro x2 x3 x4 D
    show ga_pr D (if x2 ≤ x4 then (k59 x3 D) else (ga_let (aw_and x3 (aw_w32 (x3 - 1))) (fun v52 => ga_let (aw_w32 (x4 + 1)) (fun v53 => g_X17_cut_l41 n x2 v52 v53 D k59))))
    refine pr_ite (fun c44 => ?_) (fun c44 => ?_)
    exact hk59 _ _ 
    refine pr_let (fun v52 => ?_)
    refine pr_let (fun v53 => ?_)
    exact ih _ _ _ _ 
theorem g_X17_cut_pr {x1 x2 : Int} {D : ga_D} : ga_pr D (g_X17_cut x1 x2 D) := by
  unfold g_X17_cut
  refine pr_ite (fun c1 => ?_) (fun c1 => ?_)
  exact pr_some
  refine pr_ite (fun c9 => ?_) (fun c9 => ?_)
  exact pr_some
  refine pr_ite (fun c13 => ?_) (fun c13 => ?_)
  exact pr_some
  refine pr_ck (fun ha22 => ?_)
  refine pr_bind (g_J25_bitCount_pr) (fun r23 D23 => ?_)
  refine pr_ite (fun c26 => ?_) (fun c26 => ?_)
  refine pr_ck (fun ha36 => ?_)
  refine pr_let (fun v37 => ?_)
  refine g_X17_cut_l41_pr (fun x3 D59 => ?_) _ _ _ _ _ 
  refine pr_bind (g_J25_numberOfTrailingZeros_pr) (fun r60 D60 => ?_)
  exact pr_some
  exact pr_some
theorem g_X17_stands_j119_pr  {k45 : Int → Int → Int → Int → Int → Int → Int → ga_D → ga_S} (hk45 : ∀ (x1 x2 x3 x4 x5 x6 x7 : Int) (D : ga_D), ga_pr D (k45 x1 x2 x3 x4 x5 x6 x7 D)) (x1 x2 x4 x5 x6 x7 x8 s0 s1 s2 : Int) (D : ga_D) : ga_pr D (g_X17_stands_j119 x1 x2 x4 x5 x6 x7 x8 s0 s1 s2 D k45) := by
  unfold g_X17_stands_j119
  refine pr_let (fun v121 => ?_)
  refine pr_ck (fun ha135 => ?_)
  refine pr_let (fun v137 => ?_)
  refine pr_let (fun v142 => ?_)
  exact hk45 _ _ _ _ _ _ _ _ 
theorem g_X17_stands_j77_pr  {k45 : Int → Int → Int → Int → Int → Int → Int → ga_D → ga_S} (hk45 : ∀ (x1 x2 x3 x4 x5 x6 x7 : Int) (D : ga_D), ga_pr D (k45 x1 x2 x3 x4 x5 x6 x7 D)) (x1 x2 x3 x4 x5 x7 s0 : Int) (D : ga_D) : ga_pr D (g_X17_stands_j77 x1 x2 x3 x4 x5 x7 s0 D k45) := by
  unfold g_X17_stands_j77
  refine pr_bind (g_X17_isTold_pr) (fun r83 D83 => ?_)
  refine pr_ck (fun ha100 => ?_)
  refine pr_ite (fun c103 => ?_) (fun c103 => ?_)
  refine pr_ck (fun ha118 => ?_)
  refine g_X17_stands_j119_pr (fun x1 x2 x3 x4 x5 x6 x7 D45 => ?_) _ _ _ _ _ _ _ _ _ _ _ 
  exact hk45 _ _ _ _ _ _ _ _ 
  refine g_X17_stands_j119_pr (fun x1 x2 x3 x4 x5 x6 x7 D45 => ?_) _ _ _ _ _ _ _ _ _ _ _ 
  exact hk45 _ _ _ _ _ _ _ _ 
theorem g_X17_stands_l45_pr  {k148 : Int → Int → Int → Int → ga_D → ga_S} (hk148 : ∀ (x1 x3 x4 x6 : Int) (D : ga_D), ga_pr D (k148 x1 x3 x4 x6 D)) : ∀ (n : Nat) (x1 x2 x3 x4 x5 x6 x7 : Int) (D : ga_D), ga_pr D (g_X17_stands_l45 n x1 x2 x3 x4 x5 x6 x7 D k148) := by
  intro n
  induction n with
  | zero => intro x1 x2 x3 x4 x5 x6 x7 D; exact pr_none
  | succ n ih =>
    intro x1 x2 x3 x4 x5 x6 x7 D
    show ga_pr D (if x5 < x7 then (k148 x1 x3 x4 x6 D) else (if x6 = 0 then (k148 x1 x3 x4 x6 D) else (if x7 ≠ x5 then (ga_bind (g_X17_column x1 x7 D) (fun r73 D73 => g_X17_stands_j77 x1 x2 x3 x4 x5 x7 (aw_w32 (1 + r73)) D73 (fun x1 x2 x3 x4 x5 x6 x7 D45 => g_X17_stands_l45 n x1 x2 x3 x4 x5 x6 x7 D45 k148))) else (g_X17_stands_j77 x1 x2 x3 x4 x5 x7 0 D (fun x1 x2 x3 x4 x5 x6 x7 D45 => g_X17_stands_l45 n x1 x2 x3 x4 x5 x6 x7 D45 k148)))))
    refine pr_ite (fun c49 => ?_) (fun c49 => ?_)
    exact hk148 _ _ _ _ _ 
    refine pr_ite (fun c54 => ?_) (fun c54 => ?_)
    exact hk148 _ _ _ _ _ 
    refine pr_ite (fun c61 => ?_) (fun c61 => ?_)
    refine pr_bind (g_X17_column_pr) (fun r73 D73 => ?_)
    refine g_X17_stands_j77_pr (fun x1 x2 x3 x4 x5 x6 x7 D45 => ?_) _ _ _ _ _ _ _ _ 
    exact ih _ _ _ _ _ _ _ _ 
    refine g_X17_stands_j77_pr (fun x1 x2 x3 x4 x5 x6 x7 D45 => ?_) _ _ _ _ _ _ _ _ 
    exact ih _ _ _ _ _ _ _ _ 
theorem g_X17_stands_j148_pr  (x1 x3 x4 x6 : Int) (D : ga_D) : ga_pr D (g_X17_stands_j148 x1 x3 x4 x6 D) := by
  unfold g_X17_stands_j148
  refine pr_ite (fun c150 => ?_) (fun c150 => ?_)
  exact pr_some
  refine pr_ite (fun c158 => ?_) (fun c158 => ?_)
  exact pr_some
  refine pr_ck (fun ha168 => ?_)
  refine pr_ite (fun c169 => ?_) (fun c169 => ?_)
  exact pr_some
  exact pr_some
theorem g_X17_stands_pr {x1 : Int} {D : ga_D} : ga_pr D (g_X17_stands x1 D) := by
  unfold g_X17_stands
  refine pr_ck (fun ha12 => ?_)
  refine pr_bind (g_J25_bitCount_pr) (fun r13 D13 => ?_)
  refine pr_ck (fun ha24 => ?_)
  refine pr_bind (g_X17_weightOf_pr) (fun r25 D25 => ?_)
  refine pr_ite (fun c32 => ?_) (fun c32 => ?_)
  refine g_X17_stands_l45_pr (fun x1 x3 x4 x6 D148 => ?_) _ _ _ _ _ _ _ _ _ 
  refine g_X17_stands_j148_pr _ _ _ _ _ 
  refine g_X17_stands_l45_pr (fun x1 x3 x4 x6 D148 => ?_) _ _ _ _ _ _ _ _ _ 
  refine g_X17_stands_j148_pr _ _ _ _ _ 
theorem g_X17_check_l2_pr  {k24 : Int → ga_D → ga_S} (hk24 : ∀ (x1 : Int) (D : ga_D), ga_pr D (k24 x1 D)) : ∀ (n : Nat) (x1 : Int) (D : ga_D), ga_pr D (g_X17_check_l2 n x1 D k24) := by
  intro n
  induction n with
  | zero => intro x1 D; exact pr_none
  | succ n ih =>
    intro x1 D
    show ga_pr D (if D 4828 15 ≤ x1 then (k24 x1 D) else (ga_bind (g_X17_stands x1 D) (fun r12 D12 => if r12 = 0 then (k24 x1 D12) else (ga_let (aw_w32 (x1 + 1)) (fun v18 => g_X17_check_l2 n v18 D12 k24)))))
    refine pr_ite (fun c7 => ?_) (fun c7 => ?_)
    exact hk24 _ _ 
    refine pr_bind (g_X17_stands_pr) (fun r12 D12 => ?_)
    refine pr_ite (fun c15 => ?_) (fun c15 => ?_)
    exact hk24 _ _ 
    refine pr_let (fun v18 => ?_)
    exact ih _ _ 
theorem g_X17_check_j24_pr  (x1 : Int) (D : ga_D) : ga_pr D (g_X17_check_j24 x1 D) := by
  unfold g_X17_check_j24
  refine pr_ite (fun c29 => ?_) (fun c29 => ?_)
  exact pr_some
  exact pr_some
theorem g_X17_check_pr {D : ga_D} : ga_pr D (g_X17_check D) := by
  unfold g_X17_check
  refine g_X17_check_l2_pr (fun x1 D24 => ?_) _ _ _ 
  refine g_X17_check_j24_pr _ _ 
theorem g_X17_isSet_l2_pr  {k26 : Int → ga_D → ga_S} (hk26 : ∀ (x2 : Int) (D : ga_D), ga_pr D (k26 x2 D)) : ∀ (n : Nat) (x1 x2 : Int) (D : ga_D), ga_pr D (g_X17_isSet_l2 n x1 x2 D k26) := by
  intro n
  induction n with
  | zero => intro x1 x2 D; exact pr_none
  | succ n ih =>
    intro x1 x2 D
    show ga_pr D (if D 4828 15 ≤ x2 then (k26 x2 D) else (ga_ck (0 ≤ x2 ∧ x2 < 63) (if D 4846 x2 = x1 then (k26 x2 D) else (ga_let (aw_w32 (x2 + 1)) (fun v20 => g_X17_isSet_l2 n x1 v20 D k26)))))
    refine pr_ite (fun c7 => ?_) (fun c7 => ?_)
    exact hk26 _ _ 
    refine pr_ck (fun ha15 => ?_)
    refine pr_ite (fun c17 => ?_) (fun c17 => ?_)
    exact hk26 _ _ 
    refine pr_let (fun v20 => ?_)
    exact ih _ _ _ 
theorem g_X17_isSet_j26_pr  (x2 : Int) (D : ga_D) : ga_pr D (g_X17_isSet_j26 x2 D) := by
  unfold g_X17_isSet_j26
  refine pr_ite (fun c31 => ?_) (fun c31 => ?_)
  exact pr_some
  exact pr_some
theorem g_X17_isSet_pr {x1 : Int} {D : ga_D} : ga_pr D (g_X17_isSet x1 D) := by
  unfold g_X17_isSet
  refine g_X17_isSet_l2_pr (fun x2 D26 => ?_) _ _ _ _ 
  refine g_X17_isSet_j26_pr _ _ 
theorem g_X17_labelsClosed_l35_pr  {k63 : Int → Int → ga_D → ga_S} (hk63 : ∀ (x1 x2 : Int) (D : ga_D), ga_pr D (k63 x1 x2 D)) : ∀ (n : Nat) (x1 x2 x3 : Int) (D : ga_D), ga_pr D (g_X17_labelsClosed_l35 n x1 x2 x3 D k63) := by
  intro n
  induction n with
  | zero => intro x1 x2 x3 D; exact pr_none
  | succ n ih =>
    intro x1 x2 x3 D
    show ga_pr D (if x3 ≤ 0 then (k63 x1 x2 D) else (if x1 = 0 then (k63 x1 x2 D) else (ga_bind (g_X17_isSet x3 D) (fun r45 D45 => ga_ck (0 ≤ x2 ∧ x2 < 63) (ga_let (aw_and (aw_w32 (x3 - 1)) (D45 4846 x2)) (fun v59 => g_X17_labelsClosed_l35 n r45 x2 v59 D45 k63))))))
    refine pr_ite (fun c36 => ?_) (fun c36 => ?_)
    exact hk63 _ _ _ 
    refine pr_ite (fun c40 => ?_) (fun c40 => ?_)
    exact hk63 _ _ _ 
    refine pr_bind (g_X17_isSet_pr) (fun r45 D45 => ?_)
    refine pr_ck (fun ha57 => ?_)
    refine pr_let (fun v59 => ?_)
    exact ih _ _ _ _ 
theorem g_X17_labelsClosed_l7_pr  {k69 : Int → ga_D → ga_S} (hk69 : ∀ (x1 : Int) (D : ga_D), ga_pr D (k69 x1 D)) : ∀ (n : Nat) (x1 x2 : Int) (D : ga_D), ga_pr D (g_X17_labelsClosed_l7 n x1 x2 D k69) := by
  intro n
  induction n with
  | zero => intro x1 x2 D; exact pr_none
  | succ n ih =>
    intro x1 x2 D
    show ga_pr D (if D 4828 15 ≤ x2 then (k69 x1 D) else (if x1 = 0 then (k69 x1 D) else (ga_ck (0 ≤ x2 ∧ x2 < 63) (ga_ck (0 ≤ x2 ∧ x2 < 63) (ga_let (aw_and (aw_w32 ((D 4846 x2) - 1)) (D 4846 x2)) (fun v34 => g_X17_labelsClosed_l35 aw_fu x1 x2 v34 D (fun x1 x2 D63 => ga_let (aw_w32 (x2 + 1)) (fun v63 => g_X17_labelsClosed_l7 n x1 v63 D63 k69))))))))
    refine pr_ite (fun c12 => ?_) (fun c12 => ?_)
    exact hk69 _ _ 
    refine pr_ite (fun c16 => ?_) (fun c16 => ?_)
    exact hk69 _ _ 
    refine pr_ck (fun ha24 => ?_)
    refine pr_ck (fun ha32 => ?_)
    refine pr_let (fun v34 => ?_)
    refine g_X17_labelsClosed_l35_pr (fun x1 x2 D63 => ?_) _ _ _ _ _ 
    refine pr_let (fun v63 => ?_)
    exact ih _ _ _ 
theorem g_X17_labelsClosed_pr {D : ga_D} : ga_pr D (g_X17_labelsClosed D) := by
  unfold g_X17_labelsClosed
  refine pr_let (fun v4 => ?_)
  refine g_X17_labelsClosed_l7_pr (fun x1 D69 => ?_) _ _ _ _ 
  refine pr_ck (fun hr70 => ?_)
  exact pr_some
