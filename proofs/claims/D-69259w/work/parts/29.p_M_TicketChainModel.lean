theorem g_X49_isAtMost_pr {x0 x2 x3 : Int} {D : ga_D} : ga_pr D (g_X49_isAtMost x0 x2 x3 D) := by
  unfold g_X49_isAtMost
  refine pr_let (fun v4 => ?_)
  refine pr_let (fun v11 => ?_)
  refine pr_let (fun v18 => ?_)
  refine pr_let (fun v35 => ?_)
  refine pr_let (fun v43 => ?_)
  refine pr_let (fun v56 => ?_)
  refine pr_let (fun v64 => ?_)
  refine pr_ite (fun c67 => ?_) (fun c67 => ?_)
  refine pr_let (fun v113 => ?_)
  refine pr_let (fun v132 => ?_)
  refine pr_let (fun v151 => ?_)
  refine pr_let (fun v164 => ?_)
  refine pr_let (fun v186 => ?_)
  refine pr_ite (fun c196 => ?_) (fun c196 => ?_)
  exact pr_some
  refine pr_ite (fun c207 => ?_) (fun c207 => ?_)
  exact pr_some
  refine pr_ite (fun c214 => ?_) (fun c214 => ?_)
  exact pr_some
  exact pr_some
  refine pr_ite (fun c78 => ?_) (fun c78 => ?_)
  exact pr_some
  refine pr_ite (fun c89 => ?_) (fun c89 => ?_)
  exact pr_some
  refine pr_ite (fun c99 => ?_) (fun c99 => ?_)
  exact pr_some
  exact pr_some
theorem g_X49_rootOf_l7_pr  {k49 : Int → ga_D → ga_S} (hk49 : ∀ (x2 : Int) (D : ga_D), ga_pr D (k49 x2 D)) : ∀ (n : Nat) (x0 x1 x2 x4 : Int) (D : ga_D), ga_pr D (g_X49_rootOf_l7 n x0 x1 x2 x4 D k49) := by
  intro n
  induction n with
  | zero => intro x0 x1 x2 x4 D; exact pr_none
  | succ n ih =>
    intro x0 x1 x2 x4 D
    show ga_pr D (if aw_w64 (x4 - x2) ≤ 1 then (k49 x2 D) else (ga_let (aw_w64 (Int.tdiv (aw_w64 (x2 + x4)) 2)) (fun v24 => ga_bind (g_X49_isAtMost v24 x0 x1 D) (fun r30 D30 => if r30 = 0 then (g_X49_rootOf_l7 n x0 x1 x2 v24 D30 k49) else (g_X49_rootOf_l7 n x0 x1 v24 x4 D30 k49)))))
    refine pr_ite (fun c13 => ?_) (fun c13 => ?_)
    exact hk49 _ _ 
    refine pr_let (fun v24 => ?_)
    refine pr_bind (g_X49_isAtMost_pr) (fun r30 D30 => ?_)
    refine pr_ite (fun c33 => ?_) (fun c33 => ?_)
    exact ih _ _ _ _ _ 
    exact ih _ _ _ _ _ 
theorem g_X49_rootOf_pr {x0 x1 : Int} {D : ga_D} : ga_pr D (g_X49_rootOf x0 x1 D) := by
  unfold g_X49_rootOf
  refine g_X49_rootOf_l7_pr (fun x2 D49 => ?_) _ _ _ _ _ _ 
  exact pr_some
theorem g_X49_tareOf_j41_pr  {k5 : Int → Int → Int → Int → ga_D → ga_S} (hk5 : ∀ (x1 x2 x3 x4 : Int) (D : ga_D), ga_pr D (k5 x1 x2 x3 x4 D)) (x1 x2 x3 x4 s0 : Int) (D : ga_D) : ga_pr D (g_X49_tareOf_j41 x1 x2 x3 x4 s0 D k5) := by
  unfold g_X49_tareOf_j41
  refine pr_ite (fun c45 => ?_) (fun c45 => ?_)
  refine pr_let (fun v75 => ?_)
  exact hk5 _ _ _ _ _ 
  refine pr_ite (fun c49 => ?_) (fun c49 => ?_)
  refine pr_let (fun v75 => ?_)
  exact hk5 _ _ _ _ _ 
  refine pr_ck (fun ha58 => ?_)
  refine pr_ck (fun ha64 => ?_)
  refine pr_ite (fun c65 => ?_) (fun c65 => ?_)
  refine pr_let (fun v75 => ?_)
  exact hk5 _ _ _ _ _ 
  refine pr_let (fun v75 => ?_)
  exact hk5 _ _ _ _ _ 
theorem g_X49_tareOf_j40_pr  {k5 : Int → Int → Int → Int → ga_D → ga_S} (hk5 : ∀ (x1 x2 x3 x4 : Int) (D : ga_D), ga_pr D (k5 x1 x2 x3 x4 D)) (x1 x2 x3 x4 : Int) (D : ga_D) : ga_pr D (g_X49_tareOf_j40 x1 x2 x3 x4 D k5) := by
  unfold g_X49_tareOf_j40
  refine g_X49_tareOf_j41_pr (fun x1 x2 x3 x4 D5 => ?_) _ _ _ _ _ _ 
  exact hk5 _ _ _ _ _ 
theorem g_X49_tareOf_l5_pr  {k81 : Int → ga_D → ga_S} (hk81 : ∀ (x3 : Int) (D : ga_D), ga_pr D (k81 x3 D)) : ∀ (n : Nat) (x1 x2 x3 x4 : Int) (D : ga_D), ga_pr D (g_X49_tareOf_l5 n x1 x2 x3 x4 D k81) := by
  intro n
  induction n with
  | zero => intro x1 x2 x3 x4 D; exact pr_none
  | succ n ih =>
    intro x1 x2 x3 x4 D
    show ga_pr D (if D 5145 5 ≤ x4 then (k81 x3 D) else (ga_ck (0 ≤ x4 ∧ x4 < 1100) (if D 5149 x4 ≠ x1 then (g_X49_tareOf_j40 x1 x2 x3 x4 D (fun x1 x2 x3 x4 D5 => g_X49_tareOf_l5 n x1 x2 x3 x4 D5 k81)) else (ga_ck (0 ≤ x4 ∧ x4 < 1100) (if x2 < D 5148 x4 then (g_X49_tareOf_j40 x1 x2 x3 x4 D (fun x1 x2 x3 x4 D5 => g_X49_tareOf_l5 n x1 x2 x3 x4 D5 k81)) else (g_X49_tareOf_j41 x1 x2 x3 x4 1 D (fun x1 x2 x3 x4 D5 => g_X49_tareOf_l5 n x1 x2 x3 x4 D5 k81)))))))
    refine pr_ite (fun c11 => ?_) (fun c11 => ?_)
    exact hk81 _ _ 
    refine pr_ck (fun ha20 => ?_)
    refine pr_ite (fun c22 => ?_) (fun c22 => ?_)
    refine g_X49_tareOf_j40_pr (fun x1 x2 x3 x4 D5 => ?_) _ _ _ _ _ 
    exact ih _ _ _ _ _ 
    refine pr_ck (fun ha31 => ?_)
    refine pr_ite (fun c33 => ?_) (fun c33 => ?_)
    refine g_X49_tareOf_j40_pr (fun x1 x2 x3 x4 D5 => ?_) _ _ _ _ _ 
    exact ih _ _ _ _ _ 
    refine g_X49_tareOf_j41_pr (fun x1 x2 x3 x4 D5 => ?_) _ _ _ _ _ _ 
    exact ih _ _ _ _ _ 
theorem g_X49_tareOf_pr {x1 x2 : Int} {D : ga_D} : ga_pr D (g_X49_tareOf x1 x2 D) := by
  unfold g_X49_tareOf
  refine g_X49_tareOf_l5_pr (fun x3 D81 => ?_) _ _ _ _ _ _ 
  refine pr_ite (fun c82 => ?_) (fun c82 => ?_)
  refine pr_ck (fun ha96 => ?_)
  exact pr_some
  exact pr_some
theorem g_X49_isIn_pr {x0 x2 : Int} {D : ga_D} : ga_pr D (g_X49_isIn x0 x2 D) := by
  unfold g_X49_isIn
  refine pr_ite (fun c3 => ?_) (fun c3 => ?_)
  exact pr_some
  refine pr_ite (fun c9 => ?_) (fun c9 => ?_)
  exact pr_some
  exact pr_some
theorem g_X49_canBe_pr {x0 x1 : Int} {D : ga_D} : ga_pr D (g_X49_canBe x0 x1 D) := by
  unfold g_X49_canBe
  refine pr_ite (fun n1_0 => ?_) (fun n1_0 => ?_)
  refine pr_bind (g_X49_isIn_pr) (fun r48 D48 => ?_)
  refine pr_ck (fun hr51 => ?_)
  exact pr_some
  refine pr_ite (fun n1_1 => ?_) (fun n1_1 => ?_)
  refine pr_bind (g_X49_isIn_pr) (fun r56 D56 => ?_)
  refine pr_ck (fun hr59 => ?_)
  exact pr_some
  refine pr_ite (fun n1_2 => ?_) (fun n1_2 => ?_)
  refine pr_bind (g_X49_isIn_pr) (fun r64 D64 => ?_)
  refine pr_ck (fun hr67 => ?_)
  exact pr_some
  refine pr_ite (fun n1_3 => ?_) (fun n1_3 => ?_)
  refine pr_bind (g_X49_isIn_pr) (fun r64 D64 => ?_)
  refine pr_ck (fun hr67 => ?_)
  exact pr_some
  refine pr_ite (fun n1_4 => ?_) (fun n1_4 => ?_)
  exact pr_some
  refine pr_ite (fun n1_5 => ?_) (fun n1_5 => ?_)
  refine pr_bind (g_X49_isIn_pr) (fun r72 D72 => ?_)
  refine pr_ck (fun hr75 => ?_)
  exact pr_some
  refine pr_ite (fun n1_6 => ?_) (fun n1_6 => ?_)
  refine pr_bind (g_X49_isIn_pr) (fun r80 D80 => ?_)
  refine pr_ck (fun hr83 => ?_)
  exact pr_some
  exact pr_some
theorem g_X49_dayOf_pr {x0 : Int} {D : ga_D} : ga_pr D (g_X49_dayOf x0 D) := by
  unfold g_X49_dayOf
  exact pr_some
theorem g_X49_write_l3_pr  {k39 : Int → Int → ga_D → ga_S} (hk39 : ∀ (x1 x4 : Int) (D : ga_D), ga_pr D (k39 x1 x4 D)) : ∀ (n : Nat) (x1 x2 x4 x5 : Int) (D : ga_D), ga_pr D (g_X49_write_l3 n x1 x2 x4 x5 D k39) := by
  intro n
  induction n with
  | zero => intro x1 x2 x4 x5 D; exact pr_none
  | succ n ih =>
    intro x1 x2 x4 x5 D
    show ga_pr D (if x4 ≤ x5 then (k39 x1 x4 D) else (ga_ck (0 ≤ aw_w32 (x1 + x5) ∧ aw_w32 (x1 + x5) < 14600 ∧ (-128) ≤ aw_i2b (aw_w32 (aw_lshr x2 (aw_w32 (8 * (aw_w32 ((aw_w32 (x4 - 1)) - x5)))))) ∧ aw_i2b (aw_w32 (aw_lshr x2 (aw_w32 (8 * (aw_w32 ((aw_w32 (x4 - 1)) - x5)))))) < 128) (ga_let (ga_set D 5154 (aw_w32 (x1 + x5)) (aw_i2b (aw_w32 (aw_lshr x2 (aw_w32 (8 * (aw_w32 ((aw_w32 (x4 - 1)) - x5)))))))) (fun D32 => ga_let (aw_w32 (x5 + 1)) (fun v33 => g_X49_write_l3 n x1 x2 x4 v33 D32 k39)))))
    refine pr_ite (fun c7 => ?_) (fun c7 => ?_)
    exact hk39 _ _ _ 
    refine pr_ck (fun ha32 => ?_)
    refine pr_upd (ga_Pn K_5154 rfl) (fun D32 => ?_)
    refine pr_let (fun v33 => ?_)
    exact ih _ _ _ _ _ 
theorem g_X49_write_pr {x1 x2 x4 : Int} {D : ga_D} : ga_pr D (g_X49_write x1 x2 x4 D) := by
  unfold g_X49_write
  refine g_X49_write_l3_pr (fun x1 x4 D39 => ?_) _ _ _ _ _ _ 
  exact pr_some
theorem g_X49_open_l11_pr  {k34 : Int → Int → Int → ga_D → ga_S} (hk34 : ∀ (x1 x2 x3 : Int) (D : ga_D), ga_pr D (k34 x1 x2 x3 D)) : ∀ (n : Nat) (x1 x2 x3 x4 : Int) (D : ga_D), ga_pr D (g_X49_open_l11 n x1 x2 x3 x4 D k34) := by
  intro n
  induction n with
  | zero => intro x1 x2 x3 x4 D; exact pr_none
  | succ n ih =>
    intro x1 x2 x3 x4 D
    show ga_pr D (if 73 ≤ x4 then (k34 x1 x2 x3 D) else (ga_ck (0 ≤ aw_w32 (x3 + x4) ∧ aw_w32 (x3 + x4) < 14600) (ga_let (ga_set D 5154 (aw_w32 (x3 + x4)) 0) (fun D27 => ga_let (aw_w32 (x4 + 1)) (fun v28 => g_X49_open_l11 n x1 x2 x3 v28 D27 k34)))))
    refine pr_ite (fun c15 => ?_) (fun c15 => ?_)
    exact hk34 _ _ _ _ 
    refine pr_ck (fun ha27 => ?_)
    refine pr_upd (ga_Pn K_5154 rfl) (fun D27 => ?_)
    refine pr_let (fun v28 => ?_)
    exact ih _ _ _ _ _ 
theorem g_X49_open_pr {x1 x2 : Int} {D : ga_D} : ga_pr D (g_X49_open x1 x2 D) := by
  unfold g_X49_open
  refine pr_let (fun v7 => ?_)
  refine g_X49_open_l11_pr (fun x1 x2 x3 D34 => ?_) _ _ _ _ _ _ 
  refine pr_ck (fun ha41 => ?_)
  refine pr_upd (ga_Pn K_5154 rfl) (fun D41 => ?_)
  refine pr_ck (fun ha54 => ?_)
  refine pr_bind (g_X49_write_pr) (fun r56 D56 => ?_)
  exact pr_some
theorem g_X49_lay_pr {x1 : Int} {D : ga_D} : ga_pr D (g_X49_lay x1 D) := by
  unfold g_X49_lay
  refine pr_ck (fun ha10 => ?_)
  refine pr_upd (ga_Pn K_5156 rfl) (fun D10 => ?_)
  refine pr_upd (ga_Pn K_5145 rfl) (fun D18 => ?_)
  exact pr_some
theorem g_X49_rot_pr {x0 x1 : Int} {D : ga_D} : ga_pr D (g_X49_rot x0 x1 D) := by
  unfold g_X49_rot
  exact pr_some
theorem g_X49_mix_l23_pr  {k67 : Int → Int → ga_D → ga_S} (hk67 : ∀ (x1 x2 : Int) (D : ga_D), ga_pr D (k67 x1 x2 D)) : ∀ (n : Nat) (x1 x2 x3 : Int) (D : ga_D), ga_pr D (g_X49_mix_l23 n x1 x2 x3 D k67) := by
  intro n
  induction n with
  | zero => intro x1 x2 x3 D; exact pr_none
  | succ n ih =>
    intro x1 x2 x3 D
    show ga_pr D (if 4 ≤ x3 then (k67 x1 x2 D) else (ga_ck (0 ≤ x2 ∧ x2 < 64) (ga_ck (0 ≤ aw_w32 ((aw_w32 (x1 + (aw_w32 (4 * x2)))) + x3) ∧ aw_w32 ((aw_w32 (x1 + (aw_w32 (4 * x2)))) + x3) < 192) (ga_ck (0 ≤ x2 ∧ x2 < 64) (ga_let (ga_set D 5160 x2 (aw_w32 ((aw_w32 ((D 5160 x2) * 256)) + (aw_and (D 5156 (aw_w32 ((aw_w32 (x1 + (aw_w32 (4 * x2)))) + x3))) 255)))) (fun D60 => ga_let (aw_w32 (x3 + 1)) (fun v61 => g_X49_mix_l23 n x1 x2 v61 D60 k67)))))))
    refine pr_ite (fun c25 => ?_) (fun c25 => ?_)
    exact hk67 _ _ _ 
    refine pr_ck (fun ha38 => ?_)
    refine pr_ck (fun ha54 => ?_)
    refine pr_ck (fun ha60 => ?_)
    refine pr_upd (ga_Pn K_5160 rfl) (fun D60 => ?_)
    refine pr_let (fun v61 => ?_)
    exact ih _ _ _ _ 
theorem g_X49_mix_l2_pr  {k161 : ga_D → ga_S} (hk161 : ∀ (D : ga_D), ga_pr D (k161 D)) : ∀ (n : Nat) (x1 x2 : Int) (D : ga_D), ga_pr D (g_X49_mix_l2 n x1 x2 D k161) := by
  intro n
  induction n with
  | zero => intro x1 x2 D; exact pr_none
  | succ n ih =>
    intro x1 x2 D
    show ga_pr D (if 64 ≤ x2 then (k161 D) else (if 16 ≤ x2 then (ga_ck (0 ≤ aw_w32 (x2 - 15) ∧ aw_w32 (x2 - 15) < 64) (ga_let (D 5160 (aw_w32 (x2 - 15))) (fun v79 => ga_ck (0 ≤ aw_w32 (x2 - 2) ∧ aw_w32 (x2 - 2) < 64) (ga_let (D 5160 (aw_w32 (x2 - 2))) (fun v88 => ga_bind (g_X49_rot v88 17 D) (fun r99 D99 => ga_bind (g_X49_rot v88 19 D99) (fun r106 D106 => ga_ck (0 ≤ aw_w32 (x2 - 7) ∧ aw_w32 (x2 - 7) < 64) (ga_bind (g_X49_rot v79 7 D106) (fun r129 D129 => ga_bind (g_X49_rot v79 18 D129) (fun r135 D135 => ga_ck (0 ≤ aw_w32 (x2 - 16) ∧ aw_w32 (x2 - 16) < 64) (ga_ck (0 ≤ x2 ∧ x2 < 64) (ga_let (ga_set D135 5160 x2 (aw_w32 ((aw_w32 ((aw_w32 ((aw_xor (aw_xor r99 r106) (aw_ushr v88 10)) + (D106 5160 (aw_w32 (x2 - 7))))) + (aw_xor (aw_xor r129 r135) (aw_ushr v79 3)))) + (D135 5160 (aw_w32 (x2 - 16)))))) (fun D154 => ga_let (aw_w32 (x2 + 1)) (fun v155 => g_X49_mix_l2 n x1 v155 D154 k161)))))))))))))) else (ga_ck (0 ≤ x2 ∧ x2 < 64) (ga_let (ga_set D 5160 x2 0) (fun D20 => g_X49_mix_l23 aw_fu x1 x2 0 D20 (fun x1 x2 D67 => ga_let (aw_w32 (x2 + 1)) (fun v155 => g_X49_mix_l2 n x1 v155 D67 k161)))))))
    refine pr_ite (fun c5 => ?_) (fun c5 => ?_)
    exact hk161 _ 
    refine pr_ite (fun c11 => ?_) (fun c11 => ?_)
    refine pr_ck (fun ha78 => ?_)
    refine pr_let (fun v79 => ?_)
    refine pr_ck (fun ha87 => ?_)
    refine pr_let (fun v88 => ?_)
    refine pr_bind (g_X49_rot_pr) (fun r99 D99 => ?_)
    refine pr_bind (g_X49_rot_pr) (fun r106 D106 => ?_)
    refine pr_ck (fun ha124 => ?_)
    refine pr_bind (g_X49_rot_pr) (fun r129 D129 => ?_)
    refine pr_bind (g_X49_rot_pr) (fun r135 D135 => ?_)
    refine pr_ck (fun ha152 => ?_)
    refine pr_ck (fun ha154 => ?_)
    refine pr_upd (ga_Pn K_5160 rfl) (fun D154 => ?_)
    refine pr_let (fun v155 => ?_)
    exact ih _ _ _ 
    refine pr_ck (fun ha20 => ?_)
    refine pr_upd (ga_Pn K_5160 rfl) (fun D20 => ?_)
    refine g_X49_mix_l23_pr (fun x1 x2 D67 => ?_) _ _ _ _ _ 
    refine pr_let (fun v155 => ?_)
    exact ih _ _ _ 
theorem g_X49_mix_l163_pr  {k187 : ga_D → ga_S} (hk187 : ∀ (D : ga_D), ga_pr D (k187 D)) : ∀ (n : Nat) (x2 : Int) (D : ga_D), ga_pr D (g_X49_mix_l163 n x2 D k187) := by
  intro n
  induction n with
  | zero => intro x2 D; exact pr_none
  | succ n ih =>
    intro x2 D
    show ga_pr D (if 8 ≤ x2 then (k187 D) else (ga_ck (0 ≤ x2 ∧ x2 < 8) (ga_ck (0 ≤ x2 ∧ x2 < 8) (ga_let (ga_set D 5159 x2 (D 5158 x2)) (fun D180 => ga_let (aw_w32 (x2 + 1)) (fun v181 => g_X49_mix_l163 n v181 D180 k187))))))
    refine pr_ite (fun c166 => ?_) (fun c166 => ?_)
    exact hk187 _ 
    refine pr_ck (fun ha179 => ?_)
    refine pr_ck (fun ha180 => ?_)
    refine pr_upd (ga_Pn K_5159 rfl) (fun D180 => ?_)
    refine pr_let (fun v181 => ?_)
    exact ih _ _ 
theorem g_X49_mix_l337_pr  {k364 : Int → Int → Int → ga_D → ga_S} (hk364 : ∀ (x2 x5 x6 : Int) (D : ga_D), ga_pr D (k364 x2 x5 x6 D)) : ∀ (n : Nat) (x2 x5 x6 x7 : Int) (D : ga_D), ga_pr D (g_X49_mix_l337 n x2 x5 x6 x7 D k364) := by
  intro n
  induction n with
  | zero => intro x2 x5 x6 x7 D; exact pr_none
  | succ n ih =>
    intro x2 x5 x6 x7 D
    show ga_pr D (if x7 ≤ 0 then (k364 x2 x5 x6 D) else (ga_ck (0 ≤ aw_w32 (x7 - 1) ∧ aw_w32 (x7 - 1) < 8) (ga_ck (0 ≤ x7 ∧ x7 < 8) (ga_let (ga_set D 5159 x7 (D 5159 (aw_w32 (x7 - 1)))) (fun D357 => ga_let (aw_w32 (x7 + (-1))) (fun v358 => g_X49_mix_l337 n x2 x5 x6 v358 D357 k364))))))
    refine pr_ite (fun c339 => ?_) (fun c339 => ?_)
    exact hk364 _ _ _ _ 
    refine pr_ck (fun ha356 => ?_)
    refine pr_ck (fun ha357 => ?_)
    refine pr_upd (ga_Pn K_5159 rfl) (fun D357 => ?_)
    refine pr_let (fun v358 => ?_)
    exact ih _ _ _ _ _ 
theorem g_X49_mix_l189_pr  {k396 : ga_D → ga_S} (hk396 : ∀ (D : ga_D), ga_pr D (k396 D)) : ∀ (n : Nat) (x2 : Int) (D : ga_D), ga_pr D (g_X49_mix_l189 n x2 D k396) := by
  intro n
  induction n with
  | zero => intro x2 D; exact pr_none
  | succ n ih =>
    intro x2 D
    show ga_pr D (if 64 ≤ x2 then (k396 D) else (ga_ck ((0 : Int) ≤ 4 ∧ 4 < 8) (ga_let (D 5159 4) (fun v201 => ga_ck ((0 : Int) ≤ 0 ∧ 0 < 8) (ga_let (D 5159 0) (fun v208 => ga_ck ((0 : Int) ≤ 7 ∧ 7 < 8) (ga_bind (g_X49_rot v201 6 D) (fun r220 D220 => ga_bind (g_X49_rot v201 11 D220) (fun r226 D226 => ga_bind (g_X49_rot v201 25 D226) (fun r233 D233 => ga_ck ((0 : Int) ≤ 5 ∧ 5 < 8) (ga_ck ((0 : Int) ≤ 6 ∧ 6 < 8) (ga_ck (0 ≤ x2 ∧ x2 < 64) (ga_ck (0 ≤ x2 ∧ x2 < 64) (ga_let (aw_w32 ((aw_w32 ((aw_w32 ((aw_w32 ((D 5159 7) + (aw_xor (aw_xor r220 r226) r233))) + (aw_xor (aw_and v201 (D233 5159 5)) (aw_and (aw_xor v201 (-1)) (D233 5159 6))))) + (D233 5146 x2))) + (D233 5160 x2))) (fun v273 => ga_bind (g_X49_rot v208 2 D233) (fun r278 D278 => ga_bind (g_X49_rot v208 13 D278) (fun r285 D285 => ga_bind (g_X49_rot v208 22 D285) (fun r293 D293 => ga_ck ((0 : Int) ≤ 1 ∧ 1 < 8) (ga_ck ((0 : Int) ≤ 2 ∧ 2 < 8) (ga_ck ((0 : Int) ≤ 1 ∧ 1 < 8) (ga_ck ((0 : Int) ≤ 2 ∧ 2 < 8) (ga_let (aw_w32 ((aw_xor (aw_xor r278 r285) r293) + (aw_xor (aw_xor (aw_and v208 (D293 5159 1)) (aw_and v208 (D293 5159 2))) (aw_and (D293 5159 1) (D293 5159 2))))) (fun v331 => g_X49_mix_l337 aw_fu x2 v273 v331 7 D293 (fun x2 x5 x6 D364 => ga_ck ((0 : Int) ≤ 4 ∧ 4 < 8) (ga_ck ((0 : Int) ≤ 4 ∧ 4 < 8) (ga_let (ga_set D364 5159 4 (aw_w32 ((D364 5159 4) + x5))) (fun D378 => ga_ck ((0 : Int) ≤ 0 ∧ 0 < 8) (ga_let (ga_set D378 5159 0 (aw_w32 (x5 + x6))) (fun D389 => ga_let (aw_w32 (x2 + 1)) (fun v390 => g_X49_mix_l189 n v390 D389 k396))))))))))))))))))))))))))))))
    refine pr_ite (fun c192 => ?_) (fun c192 => ?_)
    exact hk396 _ 
    refine pr_ck (fun ha200 => ?_)
    refine pr_let (fun v201 => ?_)
    refine pr_ck (fun ha207 => ?_)
    refine pr_let (fun v208 => ?_)
    refine pr_ck (fun ha216 => ?_)
    refine pr_bind (g_X49_rot_pr) (fun r220 D220 => ?_)
    refine pr_bind (g_X49_rot_pr) (fun r226 D226 => ?_)
    refine pr_bind (g_X49_rot_pr) (fun r233 D233 => ?_)
    refine pr_ck (fun ha244 => ?_)
    refine pr_ck (fun ha255 => ?_)
    refine pr_ck (fun ha264 => ?_)
    refine pr_ck (fun ha271 => ?_)
    refine pr_let (fun v273 => ?_)
    refine pr_bind (g_X49_rot_pr) (fun r278 D278 => ?_)
    refine pr_bind (g_X49_rot_pr) (fun r285 D285 => ?_)
    refine pr_bind (g_X49_rot_pr) (fun r293 D293 => ?_)
    refine pr_ck (fun ha304 => ?_)
    refine pr_ck (fun ha313 => ?_)
    refine pr_ck (fun ha321 => ?_)
    refine pr_ck (fun ha327 => ?_)
    refine pr_let (fun v331 => ?_)
    refine g_X49_mix_l337_pr (fun x2 x5 x6 D364 => ?_) _ _ _ _ _ _ 
    refine pr_ck (fun ha374 => ?_)
    refine pr_ck (fun ha378 => ?_)
    refine pr_upd (ga_Pn K_5159 rfl) (fun D378 => ?_)
    refine pr_ck (fun ha389 => ?_)
    refine pr_upd (ga_Pn K_5159 rfl) (fun D389 => ?_)
    refine pr_let (fun v390 => ?_)
    exact ih _ _ 
theorem g_X49_mix_l398_pr  {k429 : ga_D → ga_S} (hk429 : ∀ (D : ga_D), ga_pr D (k429 D)) : ∀ (n : Nat) (x2 : Int) (D : ga_D), ga_pr D (g_X49_mix_l398 n x2 D k429) := by
  intro n
  induction n with
  | zero => intro x2 D; exact pr_none
  | succ n ih =>
    intro x2 D
    show ga_pr D (if 8 ≤ x2 then (k429 D) else (ga_ck (0 ≤ x2 ∧ x2 < 8) (ga_ck (0 ≤ x2 ∧ x2 < 8) (ga_ck (0 ≤ x2 ∧ x2 < 8) (ga_let (ga_set D 5158 x2 (aw_w32 ((D 5158 x2) + (D 5159 x2)))) (fun D422 => ga_let (aw_w32 (x2 + 1)) (fun v423 => g_X49_mix_l398 n v423 D422 k429)))))))
    refine pr_ite (fun c401 => ?_) (fun c401 => ?_)
    exact hk429 _ 
    refine pr_ck (fun ha414 => ?_)
    refine pr_ck (fun ha420 => ?_)
    refine pr_ck (fun ha422 => ?_)
    refine pr_upd (ga_Pn K_5158 rfl) (fun D422 => ?_)
    refine pr_let (fun v423 => ?_)
    exact ih _ _ 
theorem g_X49_mix_pr {x1 : Int} {D : ga_D} : ga_pr D (g_X49_mix x1 D) := by
  unfold g_X49_mix
  refine g_X49_mix_l2_pr (fun D161 => ?_) _ _ _ _ 
  refine g_X49_mix_l163_pr (fun D187 => ?_) _ _ _ 
  refine g_X49_mix_l189_pr (fun D396 => ?_) _ _ _ 
  refine g_X49_mix_l398_pr (fun D429 => ?_) _ _ _ 
  exact pr_some
theorem g_X49_reckon_l15_pr  {k35 : Int → ga_D → ga_S} (hk35 : ∀ (x1 : Int) (D : ga_D), ga_pr D (k35 x1 D)) : ∀ (n : Nat) (x1 : Int) (D : ga_D), ga_pr D (g_X49_reckon_l15 n x1 D k35) := by
  intro n
  induction n with
  | zero => intro x1 D; exact pr_none
  | succ n ih =>
    intro x1 D
    show ga_pr D (if Int.tmod (D 5145 17) 64 = 56 then (k35 x1 D) else (ga_bind (g_X49_lay 0 D) (fun r29 D29 => g_X49_reckon_l15 n x1 D29 k35)))
    refine pr_ite (fun c24 => ?_) (fun c24 => ?_)
    exact hk35 _ _ 
    refine pr_bind (g_X49_lay_pr) (fun r29 D29 => ?_)
    exact ih _ _ 
theorem g_X49_reckon_j58_pr  {k38 : Int → Int → ga_D → ga_S} (hk38 : ∀ (x1 x2 : Int) (D : ga_D), ga_pr D (k38 x1 x2 D)) (x1 x2 s0 : Int) (D : ga_D) : ga_pr D (g_X49_reckon_j58 x1 x2 s0 D k38) := by
  unfold g_X49_reckon_j58
  refine pr_bind (g_X49_lay_pr) (fun r58 D58 => ?_)
  refine pr_let (fun v61 => ?_)
  exact hk38 _ _ _ 
theorem g_X49_reckon_l38_pr  {k67 : ga_D → ga_S} (hk67 : ∀ (D : ga_D), ga_pr D (k67 D)) : ∀ (n : Nat) (x1 x2 : Int) (D : ga_D), ga_pr D (g_X49_reckon_l38 n x1 x2 D k67) := by
  intro n
  induction n with
  | zero => intro x1 x2 D; exact pr_none
  | succ n ih =>
    intro x1 x2 D
    show ga_pr D (if x2 < 0 then (k67 D) else (if x2 ≤ 3 then (g_X49_reckon_j58 x1 x2 (aw_shr x1 (aw_w32 (8 * x2))) D (fun x1 x2 D38 => g_X49_reckon_l38 n x1 x2 D38 k67)) else (g_X49_reckon_j58 x1 x2 0 D (fun x1 x2 D38 => g_X49_reckon_l38 n x1 x2 D38 k67))))
    refine pr_ite (fun c39 => ?_) (fun c39 => ?_)
    exact hk67 _ 
    refine pr_ite (fun c45 => ?_) (fun c45 => ?_)
    refine g_X49_reckon_j58_pr (fun x1 x2 D38 => ?_) _ _ _ _ 
    exact ih _ _ _ 
    refine g_X49_reckon_j58_pr (fun x1 x2 D38 => ?_) _ _ _ _ 
    exact ih _ _ _ 
theorem g_X49_reckon_l69_pr  {k93 : ga_D → ga_S} (hk93 : ∀ (D : ga_D), ga_pr D (k93 D)) : ∀ (n : Nat) (x2 : Int) (D : ga_D), ga_pr D (g_X49_reckon_l69 n x2 D k93) := by
  intro n
  induction n with
  | zero => intro x2 D; exact pr_none
  | succ n ih =>
    intro x2 D
    show ga_pr D (if 8 ≤ x2 then (k93 D) else (ga_ck (0 ≤ x2 ∧ x2 < 8) (ga_ck (0 ≤ x2 ∧ x2 < 8) (ga_let (ga_set D 5158 x2 (D 5147 x2)) (fun D86 => ga_let (aw_w32 (x2 + 1)) (fun v87 => g_X49_reckon_l69 n v87 D86 k93))))))
    refine pr_ite (fun c72 => ?_) (fun c72 => ?_)
    exact hk93 _ 
    refine pr_ck (fun ha85 => ?_)
    refine pr_ck (fun ha86 => ?_)
    refine pr_upd (ga_Pn K_5158 rfl) (fun D86 => ?_)
    refine pr_let (fun v87 => ?_)
    exact ih _ _ 
theorem g_X49_reckon_l95_pr  {k114 : ga_D → ga_S} (hk114 : ∀ (D : ga_D), ga_pr D (k114 D)) : ∀ (n : Nat) (x2 : Int) (D : ga_D), ga_pr D (g_X49_reckon_l95 n x2 D k114) := by
  intro n
  induction n with
  | zero => intro x2 D; exact pr_none
  | succ n ih =>
    intro x2 D
    show ga_pr D (if D 5145 17 ≤ x2 then (k114 D) else (ga_bind (g_X49_mix x2 D) (fun r105 D105 => ga_let (aw_w32 (x2 + 64)) (fun v108 => g_X49_reckon_l95 n v108 D105 k114))))
    refine pr_ite (fun c100 => ?_) (fun c100 => ?_)
    exact hk114 _ 
    refine pr_bind (g_X49_mix_pr) (fun r105 D105 => ?_)
    refine pr_let (fun v108 => ?_)
    exact ih _ _ 
theorem g_X49_reckon_l116_pr  {k153 : ga_D → ga_S} (hk153 : ∀ (D : ga_D), ga_pr D (k153 D)) : ∀ (n : Nat) (x2 : Int) (D : ga_D), ga_pr D (g_X49_reckon_l116 n x2 D k153) := by
  intro n
  induction n with
  | zero => intro x2 D; exact pr_none
  | succ n ih =>
    intro x2 D
    show ga_pr D (if 32 ≤ x2 then (k153 D) else (ga_ck (0 ≤ aw_w32 (Int.tdiv x2 4) ∧ aw_w32 (Int.tdiv x2 4) < 8) (ga_ck (0 ≤ x2 ∧ x2 < 32 ∧ (-128) ≤ aw_i2b (aw_shr (D 5158 (aw_w32 (Int.tdiv x2 4))) (aw_w32 (24 - (aw_w32 (8 * (Int.tmod x2 4)))))) ∧ aw_i2b (aw_shr (D 5158 (aw_w32 (Int.tdiv x2 4))) (aw_w32 (24 - (aw_w32 (8 * (Int.tmod x2 4)))))) < 128) (ga_let (ga_set D 5157 x2 (aw_i2b (aw_shr (D 5158 (aw_w32 (Int.tdiv x2 4))) (aw_w32 (24 - (aw_w32 (8 * (Int.tmod x2 4)))))))) (fun D146 => ga_let (aw_w32 (x2 + 1)) (fun v147 => g_X49_reckon_l116 n v147 D146 k153))))))
    refine pr_ite (fun c119 => ?_) (fun c119 => ?_)
    exact hk153 _ 
    refine pr_ck (fun ha134 => ?_)
    refine pr_ck (fun ha146 => ?_)
    refine pr_upd (ga_Pn K_5157 rfl) (fun D146 => ?_)
    refine pr_let (fun v147 => ?_)
    exact ih _ _ 
theorem g_X49_reckon_pr {D : ga_D} : ga_pr D (g_X49_reckon D) := by
  unfold g_X49_reckon
  refine pr_let (fun v7 => ?_)
  refine pr_bind (g_X49_lay_pr) (fun r12 D12 => ?_)
  refine g_X49_reckon_l15_pr (fun x1 D35 => ?_) _ _ _ 
  refine g_X49_reckon_l38_pr (fun D67 => ?_) _ _ _ _ 
  refine g_X49_reckon_l69_pr (fun D93 => ?_) _ _ _ 
  refine g_X49_reckon_l95_pr (fun D114 => ?_) _ _ _ 
  refine g_X49_reckon_l116_pr (fun D153 => ?_) _ _ _ 
  exact pr_some
theorem g_X49_digestOf_j38_pr  {k7 : Int → Int → ga_D → ga_S} (hk7 : ∀ (x1 x2 : Int) (D : ga_D), ga_pr D (k7 x1 x2 D)) (x1 x2 s0 : Int) (D : ga_D) : ga_pr D (g_X49_digestOf_j38 x1 x2 s0 D k7) := by
  unfold g_X49_digestOf_j38
  refine pr_bind (g_X49_lay_pr) (fun r38 D38 => ?_)
  refine pr_let (fun v41 => ?_)
  exact hk7 _ _ _ 
theorem g_X49_digestOf_l7_pr  {k47 : Int → ga_D → ga_S} (hk47 : ∀ (x1 : Int) (D : ga_D), ga_pr D (k47 x1 D)) : ∀ (n : Nat) (x1 x2 : Int) (D : ga_D), ga_pr D (g_X49_digestOf_l7 n x1 x2 D k47) := by
  intro n
  induction n with
  | zero => intro x1 x2 D; exact pr_none
  | succ n ih =>
    intro x1 x2 D
    show ga_pr D (if 32 ≤ x2 then (k47 x1 D) else (if x1 ≠ 0 then (ga_ck (0 ≤ aw_w32 ((aw_w32 ((aw_w32 (73 * (aw_w32 (x1 - 1)))) + 41)) + x2) ∧ aw_w32 ((aw_w32 ((aw_w32 (73 * (aw_w32 (x1 - 1)))) + 41)) + x2) < 14600) (g_X49_digestOf_j38 x1 x2 (D 5154 (aw_w32 ((aw_w32 ((aw_w32 (73 * (aw_w32 (x1 - 1)))) + 41)) + x2))) D (fun x1 x2 D7 => g_X49_digestOf_l7 n x1 x2 D7 k47))) else (g_X49_digestOf_j38 x1 x2 0 D (fun x1 x2 D7 => g_X49_digestOf_l7 n x1 x2 D7 k47))))
    refine pr_ite (fun c10 => ?_) (fun c10 => ?_)
    exact hk47 _ _ 
    refine pr_ite (fun c15 => ?_) (fun c15 => ?_)
    refine pr_ck (fun ha37 => ?_)
    refine g_X49_digestOf_j38_pr (fun x1 x2 D7 => ?_) _ _ _ _ 
    exact ih _ _ _ 
    refine g_X49_digestOf_j38_pr (fun x1 x2 D7 => ?_) _ _ _ _ 
    exact ih _ _ _ 
theorem g_X49_digestOf_l49_pr  {k76 : ga_D → ga_S} (hk76 : ∀ (D : ga_D), ga_pr D (k76 D)) : ∀ (n : Nat) (x1 x2 : Int) (D : ga_D), ga_pr D (g_X49_digestOf_l49 n x1 x2 D k76) := by
  intro n
  induction n with
  | zero => intro x1 x2 D; exact pr_none
  | succ n ih =>
    intro x1 x2 D
    show ga_pr D (if 41 ≤ x2 then (k76 D) else (ga_ck (0 ≤ aw_w32 ((aw_w32 (73 * x1)) + x2) ∧ aw_w32 ((aw_w32 (73 * x1)) + x2) < 14600) (ga_bind (g_X49_lay (D 5154 (aw_w32 ((aw_w32 (73 * x1)) + x2))) D) (fun r67 D67 => ga_let (aw_w32 (x2 + 1)) (fun v70 => g_X49_digestOf_l49 n x1 v70 D67 k76)))))
    refine pr_ite (fun c52 => ?_) (fun c52 => ?_)
    exact hk76 _ 
    refine pr_ck (fun ha66 => ?_)
    refine pr_bind (g_X49_lay_pr) (fun r67 D67 => ?_)
    refine pr_let (fun v70 => ?_)
    exact ih _ _ _ 
theorem g_X49_digestOf_pr {x1 : Int} {D : ga_D} : ga_pr D (g_X49_digestOf x1 D) := by
  unfold g_X49_digestOf
  refine pr_upd (ga_Pn K_5145 rfl) (fun D2 => ?_)
  refine g_X49_digestOf_l7_pr (fun x1 D47 => ?_) _ _ _ _ 
  refine g_X49_digestOf_l49_pr (fun D76 => ?_) _ _ _ _ 
  refine pr_bind (g_X49_reckon_pr) (fun r77 D77 => ?_)
  exact pr_some
theorem g_X49_close_l10_pr  {k45 : Int → ga_D → ga_S} (hk45 : ∀ (x1 : Int) (D : ga_D), ga_pr D (k45 x1 D)) : ∀ (n : Nat) (x1 x2 : Int) (D : ga_D), ga_pr D (g_X49_close_l10 n x1 x2 D k45) := by
  intro n
  induction n with
  | zero => intro x1 x2 D; exact pr_none
  | succ n ih =>
    intro x1 x2 D
    show ga_pr D (if 32 ≤ x2 then (k45 x1 D) else (ga_ck (0 ≤ x2 ∧ x2 < 32) (ga_ck (0 ≤ aw_w32 ((aw_w32 ((aw_w32 (73 * (D 5145 14))) + 41)) + x2) ∧ aw_w32 ((aw_w32 ((aw_w32 (73 * (D 5145 14))) + 41)) + x2) < 14600 ∧ (-128) ≤ D 5157 x2 ∧ D 5157 x2 < 128) (ga_let (ga_set D 5154 (aw_w32 ((aw_w32 ((aw_w32 (73 * (D 5145 14))) + 41)) + x2)) (D 5157 x2)) (fun D38 => ga_let (aw_w32 (x2 + 1)) (fun v39 => g_X49_close_l10 n x1 v39 D38 k45))))))
    refine pr_ite (fun c13 => ?_) (fun c13 => ?_)
    exact hk45 _ _ 
    refine pr_ck (fun ha37 => ?_)
    refine pr_ck (fun ha38 => ?_)
    refine pr_upd (ga_Pn K_5154 rfl) (fun D38 => ?_)
    refine pr_let (fun v39 => ?_)
    exact ih _ _ _ 
theorem g_X49_close_pr {x1 : Int} {D : ga_D} : ga_pr D (g_X49_close x1 D) := by
  unfold g_X49_close
  refine pr_bind (g_X49_digestOf_pr) (fun r5 D5 => ?_)
  refine g_X49_close_l10_pr (fun x1 D45 => ?_) _ _ _ _ 
  refine pr_ck (fun ha64 => ?_)
  refine pr_bind (g_X49_dayOf_pr) (fun r65 D65 => ?_)
  refine pr_ck (fun ha68 => ?_)
  refine pr_upd (ga_Pn K_5155 rfl) (fun D68 => ?_)
  refine pr_upd (ga_Pn K_5145 rfl) (fun D76 => ?_)
  exact pr_some
theorem g_X49_ticket_j94_pr  (x1 x2 x3 x7 x9 s0 : Int) (D : ga_D) : ga_pr D (g_X49_ticket_j94 x1 x2 x3 x7 x9 s0 D) := by
  unfold g_X49_ticket_j94
  refine pr_ite (fun c100 => ?_) (fun c100 => ?_)
  exact pr_some
  refine pr_ite (fun c110 => ?_) (fun c110 => ?_)
  exact pr_some
  refine pr_ite (fun c120 => ?_) (fun c120 => ?_)
  refine pr_ite (fun c129 => ?_) (fun c129 => ?_)
  refine pr_let (fun v175 => ?_)
  refine pr_ck (fun ha188 => ?_)
  refine pr_upd (ga_Pn K_5151 rfl) (fun D188 => ?_)
  refine pr_ck (fun ha199 => ?_)
  refine pr_upd (ga_Pn K_5151 rfl) (fun D199 => ?_)
  refine pr_ck (fun ha210 => ?_)
  refine pr_upd (ga_Pn K_5151 rfl) (fun D210 => ?_)
  refine pr_ck (fun ha220 => ?_)
  refine pr_upd (ga_Pn K_5151 rfl) (fun D220 => ?_)
  refine pr_ck (fun ha231 => ?_)
  refine pr_upd (ga_Pn K_5151 rfl) (fun D231 => ?_)
  refine pr_ck (fun ha243 => ?_)
  refine pr_upd (ga_Pn K_5151 rfl) (fun D243 => ?_)
  refine pr_ck (fun ha256 => ?_)
  refine pr_upd (ga_Pn K_5151 rfl) (fun D256 => ?_)
  refine pr_ck (fun ha267 => ?_)
  refine pr_upd (ga_Pn K_5151 rfl) (fun D267 => ?_)
  refine pr_upd (ga_Pn K_5145 rfl) (fun D275 => ?_)
  refine pr_bind (g_X49_open_pr) (fun r284 D284 => ?_)
  refine pr_bind (g_X49_write_pr) (fun r295 D295 => ?_)
  refine pr_bind (g_X49_write_pr) (fun r306 D306 => ?_)
  refine pr_bind (g_X49_write_pr) (fun r317 D317 => ?_)
  refine pr_bind (g_X49_write_pr) (fun r329 D329 => ?_)
  refine pr_bind (g_X49_write_pr) (fun r341 D341 => ?_)
  refine pr_bind (g_X49_write_pr) (fun r353 D353 => ?_)
  refine pr_bind (g_X49_close_pr) (fun r363 D363 => ?_)
  refine pr_upd (ga_Pn K_5145 rfl) (fun D375 => ?_)
  exact pr_some
  refine pr_ck (fun ha144 => ?_)
  refine pr_upd (ga_Pn K_5153 rfl) (fun D144 => ?_)
  refine pr_upd (ga_Pn K_5145 rfl) (fun D152 => ?_)
  refine pr_upd (ga_Pn K_5145 rfl) (fun D162 => ?_)
  exact pr_some
  exact pr_some
theorem g_X49_ticket_j49_pr  (x1 x2 x3 x5 x7 x9 : Int) (D : ga_D) : ga_pr D (g_X49_ticket_j49 x1 x2 x3 x5 x7 x9 D) := by
  unfold g_X49_ticket_j49
  refine pr_bind (g_X49_canBe_pr) (fun r53 D53 => ?_)
  refine pr_ite (fun c56 => ?_) (fun c56 => ?_)
  exact pr_some
  refine pr_bind (g_X49_canBe_pr) (fun r64 D64 => ?_)
  refine pr_ite (fun c67 => ?_) (fun c67 => ?_)
  refine pr_ite (fun c76 => ?_) (fun c76 => ?_)
  refine g_X49_ticket_j94_pr _ _ _ _ _ _ _ 
  refine pr_bind (g_X49_dayOf_pr) (fun r83 D83 => ?_)
  refine pr_bind (g_X49_tareOf_pr) (fun r86 D86 => ?_)
  refine g_X49_ticket_j94_pr _ _ _ _ _ _ _ 
  exact pr_some
theorem g_X49_ticket_pr {x1 x2 x3 x5 x7 x9 : Int} {D : ga_D} : ga_pr D (g_X49_ticket x1 x2 x3 x5 x7 x9 D) := by
  unfold g_X49_ticket
  refine pr_upd (ga_Pn K_5145 rfl) (fun D2 => ?_)
  refine pr_bind (g_X49_canBe_pr) (fun r8 D8 => ?_)
  refine pr_ite (fun c11 => ?_) (fun c11 => ?_)
  exact pr_some
  refine pr_bind (g_X49_canBe_pr) (fun r17 D17 => ?_)
  refine pr_ite (fun c20 => ?_) (fun c20 => ?_)
  exact pr_some
  refine pr_bind (g_X49_canBe_pr) (fun r25 D25 => ?_)
  refine pr_ite (fun c28 => ?_) (fun c28 => ?_)
  exact pr_some
  refine pr_ite (fun c37 => ?_) (fun c37 => ?_)
  refine g_X49_ticket_j49_pr _ _ _ _ _ _ _ 
  refine pr_bind (g_X49_canBe_pr) (fun r43 D43 => ?_)
  refine pr_ite (fun c46 => ?_) (fun c46 => ?_)
  exact pr_some
  refine g_X49_ticket_j49_pr _ _ _ _ _ _ _ 
theorem g_X49_isTicket_pr {x1 : Int} {D : ga_D} : ga_pr D (g_X49_isTicket x1 D) := by
  unfold g_X49_isTicket
  refine pr_upd (ga_Pn K_5145 rfl) (fun D2 => ?_)
  refine pr_ite (fun c6 => ?_) (fun c6 => ?_)
  exact pr_some
  refine pr_ite (fun c14 => ?_) (fun c14 => ?_)
  exact pr_some
  exact pr_some
theorem g_X49_isVoid_pr {x1 : Int} {D : ga_D} : ga_pr D (g_X49_isVoid x1 D) := by
  unfold g_X49_isVoid
  refine pr_ck (fun ha11 => ?_)
  refine pr_ite (fun c14 => ?_) (fun c14 => ?_)
  exact pr_some
  exact pr_some
theorem g_X49_at_pr {x1 x2 : Int} {D : ga_D} : ga_pr D (g_X49_at x1 x2 D) := by
  unfold g_X49_at
  refine pr_bind (g_X49_isTicket_pr) (fun r2 D2 => ?_)
  refine pr_ite (fun c5 => ?_) (fun c5 => ?_)
  exact pr_some
  refine pr_ite (fun c9 => ?_) (fun c9 => ?_)
  exact pr_some
  refine pr_ite (fun c15 => ?_) (fun c15 => ?_)
  refine pr_ite (fun c24 => ?_) (fun c24 => ?_)
  refine pr_ck (fun ha63 => ?_)
  exact pr_some
  refine pr_ck (fun ha37 => ?_)
  refine pr_ck (fun ha48 => ?_)
  exact pr_some
  exact pr_some
theorem g_X49_share_l28_pr  {k57 : Int → Int → Int → ga_D → ga_S} (hk57 : ∀ (x1 x2 x3 : Int) (D : ga_D), ga_pr D (k57 x1 x2 x3 D)) : ∀ (n : Nat) (x1 x2 x3 x5 : Int) (D : ga_D), ga_pr D (g_X49_share_l28 n x1 x2 x3 x5 D k57) := by
  intro n
  induction n with
  | zero => intro x1 x2 x3 x5 D; exact pr_none
  | succ n ih =>
    intro x1 x2 x3 x5 D
    show ga_pr D (if 8 ≤ x5 then (k57 x1 x2 x3 D) else (ga_ck (0 ≤ aw_w32 ((aw_w32 (8 * x1)) + x5) ∧ aw_w32 ((aw_w32 (8 * x1)) + x5) < 1600) (ga_let (aw_w64 (x3 + (D 5152 (aw_w32 ((aw_w32 (8 * x1)) + x5))))) (fun v50 => ga_let (aw_w32 (x5 + 1)) (fun v51 => g_X49_share_l28 n x1 x2 v50 v51 D k57)))))
    refine pr_ite (fun c32 => ?_) (fun c32 => ?_)
    exact hk57 _ _ _ _ 
    refine pr_ck (fun ha47 => ?_)
    refine pr_let (fun v50 => ?_)
    refine pr_let (fun v51 => ?_)
    exact ih _ _ _ _ _ 
theorem g_X49_share_l94_pr  {k130 : Int → Int → Int → Int → Int → ga_D → ga_S} (hk130 : ∀ (x1 x2 x3 x5 x7 : Int) (D : ga_D), ga_pr D (k130 x1 x2 x3 x5 x7 D)) : ∀ (n : Nat) (x1 x2 x3 x5 x7 x9 : Int) (D : ga_D), ga_pr D (g_X49_share_l94 n x1 x2 x3 x5 x7 x9 D k130) := by
  intro n
  induction n with
  | zero => intro x1 x2 x3 x5 x7 x9 D; exact pr_none
  | succ n ih =>
    intro x1 x2 x3 x5 x7 x9 D
    show ga_pr D (if 8 ≤ x9 then (k130 x1 x2 x3 x5 x7 D) else (ga_ck (0 ≤ aw_w32 ((aw_w32 (8 * x1)) + x9) ∧ aw_w32 ((aw_w32 (8 * x1)) + x9) < 1600) (ga_ck (x3 ≠ 0) (ga_let (aw_w64 (x7 - (aw_w64 (Int.tdiv (aw_w64 (x5 * (D 5152 (aw_w32 ((aw_w32 (8 * x1)) + x9))))) x3)))) (fun v122 => ga_let (aw_w32 (x9 + 1)) (fun v124 => g_X49_share_l94 n x1 x2 x3 x5 v122 v124 D k130))))))
    refine pr_ite (fun c98 => ?_) (fun c98 => ?_)
    exact hk130 _ _ _ _ _ _ 
    refine pr_ck (fun ha116 => ?_)
    refine pr_ck (fun hz120 => ?_)
    refine pr_let (fun v122 => ?_)
    refine pr_let (fun v124 => ?_)
    exact ih _ _ _ _ _ _ _ 
theorem g_X49_share_l155_pr  {k220 : Int → Int → Int → Int → Int → Int → ga_D → ga_S} (hk220 : ∀ (x1 x2 x3 x5 x7 x11 : Int) (D : ga_D), ga_pr D (k220 x1 x2 x3 x5 x7 x11 D)) : ∀ (n : Nat) (x1 x2 x3 x5 x7 x9 x11 x13 : Int) (D : ga_D), ga_pr D (g_X49_share_l155 n x1 x2 x3 x5 x7 x9 x11 x13 D k220) := by
  intro n
  induction n with
  | zero => intro x1 x2 x3 x5 x7 x9 x11 x13 D; exact pr_none
  | succ n ih =>
    intro x1 x2 x3 x5 x7 x9 x11 x13 D
    show ga_pr D (if 8 ≤ x13 then (k220 x1 x2 x3 x5 x7 x11 D) else (ga_ck (0 ≤ aw_w32 ((aw_w32 (8 * x1)) + x13) ∧ aw_w32 ((aw_w32 (8 * x1)) + x13) < 1600) (ga_ck (x3 ≠ 0) (ga_let (Int.tmod (aw_w64 (x5 * (D 5152 (aw_w32 ((aw_w32 (8 * x1)) + x13))))) x3) (fun v180 => if x9 < v180 then (ga_let (aw_w64 (x11 + 1)) (fun v212 => ga_let (aw_w32 (x13 + 1)) (fun v214 => g_X49_share_l155 n x1 x2 x3 x5 x7 x9 v212 v214 D k220))) else (if v180 ≠ x9 then (ga_let (aw_w64 (x11 + 0)) (fun v212 => ga_let (aw_w32 (x13 + 1)) (fun v214 => g_X49_share_l155 n x1 x2 x3 x5 x7 x9 v212 v214 D k220))) else (if x2 ≤ x13 then (ga_let (aw_w64 (x11 + 0)) (fun v212 => ga_let (aw_w32 (x13 + 1)) (fun v214 => g_X49_share_l155 n x1 x2 x3 x5 x7 x9 v212 v214 D k220))) else (ga_let (aw_w64 (x11 + 1)) (fun v212 => ga_let (aw_w32 (x13 + 1)) (fun v214 => g_X49_share_l155 n x1 x2 x3 x5 x7 x9 v212 v214 D k220))))))))))
    refine pr_ite (fun c159 => ?_) (fun c159 => ?_)
    exact hk220 _ _ _ _ _ _ _ 
    refine pr_ck (fun ha175 => ?_)
    refine pr_ck (fun hz179 => ?_)
    refine pr_let (fun v180 => ?_)
    refine pr_ite (fun c189 => ?_) (fun c189 => ?_)
    refine pr_let (fun v212 => ?_)
    refine pr_let (fun v214 => ?_)
    exact ih _ _ _ _ _ _ _ _ _ 
    refine pr_ite (fun c197 => ?_) (fun c197 => ?_)
    refine pr_let (fun v212 => ?_)
    refine pr_let (fun v214 => ?_)
    exact ih _ _ _ _ _ _ _ _ _ 
    refine pr_ite (fun c203 => ?_) (fun c203 => ?_)
    refine pr_let (fun v212 => ?_)
    refine pr_let (fun v214 => ?_)
    exact ih _ _ _ _ _ _ _ _ _ 
    refine pr_let (fun v212 => ?_)
    refine pr_let (fun v214 => ?_)
    exact ih _ _ _ _ _ _ _ _ _ 
theorem g_X49_share_pr {x1 x2 : Int} {D : ga_D} : ga_pr D (g_X49_share x1 x2 D) := by
  unfold g_X49_share
  refine pr_bind (g_X49_isTicket_pr) (fun r2 D2 => ?_)
  refine pr_ite (fun c5 => ?_) (fun c5 => ?_)
  exact pr_some
  refine pr_bind (g_X49_isIn_pr) (fun r13 D13 => ?_)
  refine pr_ite (fun c16 => ?_) (fun c16 => ?_)
  refine g_X49_share_l28_pr (fun x1 x2 x3 D57 => ?_) _ _ _ _ _ _ 
  refine pr_ite (fun c60 => ?_) (fun c60 => ?_)
  refine pr_bind (g_X49_isVoid_pr) (fun r69 D69 => ?_)
  refine pr_ite (fun c72 => ?_) (fun c72 => ?_)
  refine pr_bind (g_X49_at_pr) (fun r82 D82 => ?_)
  refine g_X49_share_l94_pr (fun x1 x2 x3 x5 x7 D130 => ?_) _ _ _ _ _ _ _ _ 
  refine pr_ck (fun ha142 => ?_)
  refine pr_ck (fun hz146 => ?_)
  refine pr_let (fun v147 => ?_)
  refine g_X49_share_l155_pr (fun x1 x2 x3 x5 x7 x11 D220 => ?_) _ _ _ _ _ _ _ _ _ _ 
  refine pr_ck (fun ha232 => ?_)
  refine pr_ck (fun hz236 => ?_)
  refine pr_ite (fun c242 => ?_) (fun c242 => ?_)
  exact pr_some
  exact pr_some
  refine g_X49_share_l94_pr (fun x1 x2 x3 x5 x7 D130 => ?_) _ _ _ _ _ _ _ _ 
  refine pr_ck (fun ha142 => ?_)
  refine pr_ck (fun hz146 => ?_)
  refine pr_let (fun v147 => ?_)
  refine g_X49_share_l155_pr (fun x1 x2 x3 x5 x7 x11 D220 => ?_) _ _ _ _ _ _ _ _ _ _ 
  refine pr_ck (fun ha232 => ?_)
  refine pr_ck (fun hz236 => ?_)
  refine pr_ite (fun c242 => ?_) (fun c242 => ?_)
  exact pr_some
  exact pr_some
  exact pr_some
  exact pr_some
theorem g_X49_check_l36_pr  {k65 : Int → ga_D → ga_S} {k75 : Int → ga_D → ga_S} (hk65 : ∀ (x2 : Int) (D : ga_D), ga_pr D (k65 x2 D)) (hk75 : ∀ (x2 : Int) (D : ga_D), ga_pr D (k75 x2 D)) : ∀ (n : Nat) (x2 x3 : Int) (D : ga_D), ga_pr D (g_X49_check_l36 n x2 x3 D k65 k75) := by
  intro n
  induction n with
  | zero => intro x2 x3 D; exact pr_none
  | succ n ih =>
    intro x2 x3 D
    show ga_pr D (if 32 ≤ x3 then (k75 x2 D) else (ga_ck (0 ≤ aw_w32 ((aw_w32 ((aw_w32 (73 * x2)) + 41)) + x3) ∧ aw_w32 ((aw_w32 ((aw_w32 (73 * x2)) + 41)) + x3) < 14600) (ga_ck (0 ≤ x3 ∧ x3 < 32) (if D 5154 (aw_w32 ((aw_w32 ((aw_w32 (73 * x2)) + 41)) + x3)) = D 5157 x3 then (ga_let (aw_w32 (x3 + 1)) (fun v69 => g_X49_check_l36 n x2 v69 D k65 k75)) else (k65 x2 D)))))
    refine pr_ite (fun c39 => ?_) (fun c39 => ?_)
    exact hk75 _ _ 
    refine pr_ck (fun ha55 => ?_)
    refine pr_ck (fun ha61 => ?_)
    refine pr_ite (fun c62 => ?_) (fun c62 => ?_)
    refine pr_let (fun v69 => ?_)
    exact ih _ _ _ 
    exact hk65 _ _ 
theorem g_X49_check_l21_pr  {k65 : Int → ga_D → ga_S} {k81 : ga_D → ga_S} (hk65 : ∀ (x2 : Int) (D : ga_D), ga_pr D (k65 x2 D)) (hk81 : ∀ (D : ga_D), ga_pr D (k81 D)) : ∀ (n : Nat) (x2 : Int) (D : ga_D), ga_pr D (g_X49_check_l21 n x2 D k65 k81) := by
  intro n
  induction n with
  | zero => intro x2 D; exact pr_none
  | succ n ih =>
    intro x2 D
    show ga_pr D (if D 5145 14 ≤ x2 then (k81 D) else (ga_bind (g_X49_digestOf x2 D) (fun r31 D31 => g_X49_check_l36 aw_fu x2 0 D31 (fun x2 D65 => k65 x2 D65) (fun x2 D75 => ga_let (aw_w32 (x2 + 1)) (fun v75 => g_X49_check_l21 n v75 D75 k65 k81)))))
    refine pr_ite (fun c26 => ?_) (fun c26 => ?_)
    exact hk81 _ 
    refine pr_bind (g_X49_digestOf_pr) (fun r31 D31 => ?_)
    refine g_X49_check_l36_pr (fun x2 D65 => ?_) (fun x2 D75 => ?_) _ _ _ _ 
    exact hk65 _ _ 
    refine pr_let (fun v75 => ?_)
    exact ih _ _ 
theorem g_X49_check_pr {x1 : Int} {D : ga_D} : ga_pr D (g_X49_check x1 D) := by
  unfold g_X49_check
  refine pr_upd (ga_Pn K_5145 rfl) (fun D2 => ?_)
  refine pr_ite (fun c6 => ?_) (fun c6 => ?_)
  exact pr_some
  refine pr_ite (fun c14 => ?_) (fun c14 => ?_)
  refine g_X49_check_l21_pr (fun x2 D65 => ?_) (fun D81 => ?_) _ _ _ 
  exact pr_some
  exact pr_some
  exact pr_some
theorem g_X49_follows_l42_pr  {k79 : Int → Int → Int → Int → ga_D → ga_S} (hk79 : ∀ (x1 x2 x3 x5 : Int) (D : ga_D), ga_pr D (k79 x1 x2 x3 x5 D)) : ∀ (n : Nat) (x1 x2 x3 x5 : Int) (D : ga_D), ga_pr D (g_X49_follows_l42 n x1 x2 x3 x5 D k79) := by
  intro n
  induction n with
  | zero => intro x1 x2 x3 x5 D; exact pr_none
  | succ n ih =>
    intro x1 x2 x3 x5 D
    show ga_pr D (if D 5145 5 ≤ x5 then (k79 x1 x2 x3 x5 D) else (ga_ck (0 ≤ x5 ∧ x5 < 1100) (if D 5148 x5 ≠ x1 then (ga_let (aw_w32 (x5 + 1)) (fun v73 => g_X49_follows_l42 n x1 x2 x3 v73 D k79)) else (ga_ck (0 ≤ x5 ∧ x5 < 1100) (if D 5149 x5 = x2 then (k79 x1 x2 x3 x5 D) else (ga_let (aw_w32 (x5 + 1)) (fun v73 => g_X49_follows_l42 n x1 x2 x3 v73 D k79)))))))
    refine pr_ite (fun c48 => ?_) (fun c48 => ?_)
    exact hk79 _ _ _ _ _ 
    refine pr_ck (fun ha57 => ?_)
    refine pr_ite (fun c59 => ?_) (fun c59 => ?_)
    refine pr_let (fun v73 => ?_)
    exact ih _ _ _ _ _ 
    refine pr_ck (fun ha68 => ?_)
    refine pr_ite (fun c70 => ?_) (fun c70 => ?_)
    exact hk79 _ _ _ _ _ 
    refine pr_let (fun v73 => ?_)
    exact ih _ _ _ _ _ 
theorem g_X49_follows_j79_pr  (x1 x2 x3 x5 : Int) (D : ga_D) : ga_pr D (g_X49_follows_j79 x1 x2 x3 x5 D) := by
  unfold g_X49_follows_j79
  refine pr_ck (fun ha86 => ?_)
  refine pr_upd (ga_Pn K_5148 rfl) (fun D86 => ?_)
  refine pr_ck (fun ha94 => ?_)
  refine pr_upd (ga_Pn K_5149 rfl) (fun D94 => ?_)
  refine pr_ck (fun ha103 => ?_)
  refine pr_upd (ga_Pn K_5150 rfl) (fun D103 => ?_)
  refine pr_ite (fun c111 => ?_) (fun c111 => ?_)
  refine pr_upd (ga_Pn K_5145 rfl) (fun D127 => ?_)
  exact pr_some
  refine pr_upd (ga_Pn K_5145 rfl) (fun D127 => ?_)
  exact pr_some
theorem g_X49_follows_pr {x1 x2 x3 : Int} {D : ga_D} : ga_pr D (g_X49_follows x1 x2 x3 D) := by
  unfold g_X49_follows
  refine pr_upd (ga_Pn K_5145 rfl) (fun D2 => ?_)
  refine pr_bind (g_X49_isIn_pr) (fun r10 D10 => ?_)
  refine pr_ite (fun c13 => ?_) (fun c13 => ?_)
  exact pr_some
  refine pr_bind (g_X49_isIn_pr) (fun r21 D21 => ?_)
  refine pr_ite (fun c24 => ?_) (fun c24 => ?_)
  exact pr_some
  refine pr_bind (g_X49_isIn_pr) (fun r31 D31 => ?_)
  refine pr_ite (fun c34 => ?_) (fun c34 => ?_)
  refine g_X49_follows_l42_pr (fun x1 x2 x3 x5 D79 => ?_) _ _ _ _ _ _ 
  refine g_X49_follows_j79_pr _ _ _ _ _ 
  exact pr_some
theorem g_X49_correct_j89_pr  (x1 x2 x3 x5 x6 s0 : Int) (D : ga_D) : ga_pr D (g_X49_correct_j89 x1 x2 x3 x5 x6 s0 D) := by
  unfold g_X49_correct_j89
  refine pr_ite (fun c96 => ?_) (fun c96 => ?_)
  refine pr_ck (fun ha112 => ?_)
  refine pr_upd (ga_Pn K_5151 rfl) (fun D112 => ?_)
  refine pr_bind (g_X49_open_pr) (fun r116 D116 => ?_)
  refine pr_bind (g_X49_write_pr) (fun r127 D127 => ?_)
  refine pr_bind (g_X49_write_pr) (fun r138 D138 => ?_)
  refine pr_bind (g_X49_write_pr) (fun r150 D150 => ?_)
  refine pr_bind (g_X49_close_pr) (fun r157 D157 => ?_)
  exact pr_some
  exact pr_some
theorem g_X49_correct_j67_pr  (x1 x2 x3 x5 s0 : Int) (D : ga_D) : ga_pr D (g_X49_correct_j67 x1 x2 x3 x5 s0 D) := by
  unfold g_X49_correct_j67
  refine pr_ite (fun c71 => ?_) (fun c71 => ?_)
  refine pr_ck (fun ha88 => ?_)
  refine g_X49_correct_j89_pr _ _ _ _ _ _ _ 
  refine g_X49_correct_j89_pr _ _ _ _ _ _ _ 
theorem g_X49_correct_pr {x1 x2 x3 x5 : Int} {D : ga_D} : ga_pr D (g_X49_correct x1 x2 x3 x5 D) := by
  unfold g_X49_correct
  refine pr_bind (g_X49_isTicket_pr) (fun r2 D2 => ?_)
  refine pr_ite (fun c5 => ?_) (fun c5 => ?_)
  exact pr_some
  refine pr_bind (g_X49_canBe_pr) (fun r10 D10 => ?_)
  refine pr_ite (fun c13 => ?_) (fun c13 => ?_)
  exact pr_some
  refine pr_bind (g_X49_canBe_pr) (fun r21 D21 => ?_)
  refine pr_ite (fun c24 => ?_) (fun c24 => ?_)
  exact pr_some
  refine pr_bind (g_X49_isVoid_pr) (fun r29 D29 => ?_)
  refine pr_ite (fun c32 => ?_) (fun c32 => ?_)
  exact pr_some
  refine pr_ite (fun c42 => ?_) (fun c42 => ?_)
  refine pr_ite (fun c49 => ?_) (fun c49 => ?_)
  refine pr_ck (fun ha66 => ?_)
  refine g_X49_correct_j67_pr _ _ _ _ _ _ 
  refine g_X49_correct_j67_pr _ _ _ _ _ _ 
  exact pr_some
theorem g_X49_voids_pr {x1 x2 : Int} {D : ga_D} : ga_pr D (g_X49_voids x1 x2 D) := by
  unfold g_X49_voids
  refine pr_bind (g_X49_isTicket_pr) (fun r2 D2 => ?_)
  refine pr_ite (fun c5 => ?_) (fun c5 => ?_)
  exact pr_some
  refine pr_ite (fun c10 => ?_) (fun c10 => ?_)
  exact pr_some
  refine pr_ite (fun c16 => ?_) (fun c16 => ?_)
  exact pr_some
  refine pr_bind (g_X49_isVoid_pr) (fun r21 D21 => ?_)
  refine pr_ite (fun c24 => ?_) (fun c24 => ?_)
  exact pr_some
  refine pr_ite (fun c34 => ?_) (fun c34 => ?_)
  refine pr_ck (fun ha52 => ?_)
  refine pr_upd (ga_Pn K_5151 rfl) (fun D52 => ?_)
  refine pr_bind (g_X49_open_pr) (fun r57 D57 => ?_)
  refine pr_bind (g_X49_write_pr) (fun r63 D63 => ?_)
  refine pr_bind (g_X49_close_pr) (fun r69 D69 => ?_)
  exact pr_some
  exact pr_some
theorem g_X49_number_pr {x1 : Int} {D : ga_D} : ga_pr D (g_X49_number x1 D) := by
  unfold g_X49_number
  refine pr_bind (g_X49_isTicket_pr) (fun r2 D2 => ?_)
  refine pr_ite (fun c5 => ?_) (fun c5 => ?_)
  exact pr_some
  refine pr_ck (fun ha16 => ?_)
  exact pr_some
theorem g_X49_gap_pr {x1 : Int} {D : ga_D} : ga_pr D (g_X49_gap x1 D) := by
  unfold g_X49_gap
  refine pr_upd (ga_Pn K_5145 rfl) (fun D2 => ?_)
  refine pr_ite (fun c6 => ?_) (fun c6 => ?_)
  exact pr_some
  refine pr_ite (fun c14 => ?_) (fun c14 => ?_)
  exact pr_some
  refine pr_ck (fun ha22 => ?_)
  exact pr_some
theorem g_X49_rows_pr {D : ga_D} : ga_pr D (g_X49_rows D) := by
  unfold g_X49_rows
  refine pr_upd (ga_Pn K_5145 rfl) (fun D2 => ?_)
  exact pr_some
theorem g_X49_made_pr {D : ga_D} : ga_pr D (g_X49_made D) := by
  unfold g_X49_made
  refine pr_upd (ga_Pn K_5145 rfl) (fun D2 => ?_)
  exact pr_some
theorem g_X49_split_pr {x1 x2 x3 : Int} {D : ga_D} : ga_pr D (g_X49_split x1 x2 x3 D) := by
  unfold g_X49_split
  refine pr_bind (g_X49_isTicket_pr) (fun r2 D2 => ?_)
  refine pr_ite (fun c5 => ?_) (fun c5 => ?_)
  exact pr_some
  refine pr_bind (g_X49_isIn_pr) (fun r13 D13 => ?_)
  refine pr_ite (fun c16 => ?_) (fun c16 => ?_)
  exact pr_some
  refine pr_bind (g_X49_isIn_pr) (fun r23 D23 => ?_)
  refine pr_ite (fun c26 => ?_) (fun c26 => ?_)
  refine pr_ck (fun ha43 => ?_)
  refine pr_upd (ga_Pn K_5152 rfl) (fun D43 => ?_)
  exact pr_some
  exact pr_some
theorem g_X49_put_pr {x1 : Int} {D : ga_D} : ga_pr D (g_X49_put x1 D) := by
  unfold g_X49_put
  refine pr_ck (fun ha10 => ?_)
  refine pr_upd (ga_Pn K_5162 rfl) (fun D10 => ?_)
  refine pr_upd (ga_Pn K_5145 rfl) (fun D18 => ?_)
  exact pr_some
theorem g_X49_putNumber_l2_pr  {k21 : Int → Int → ga_D → ga_S} (hk21 : ∀ (x1 x3 : Int) (D : ga_D), ga_pr D (k21 x1 x3 D)) : ∀ (n : Nat) (x1 x3 : Int) (D : ga_D), ga_pr D (g_X49_putNumber_l2 n x1 x3 D k21) := by
  intro n
  induction n with
  | zero => intro x1 x3 D; exact pr_none
  | succ n ih =>
    intro x1 x3 D
    show ga_pr D (ga_ck (x3 ≠ 0) (if aw_w64 (Int.tdiv x1 x3) ≤ 9 then (k21 x1 x3 D) else (ga_let (aw_w64 (x3 * 10)) (fun v17 => g_X49_putNumber_l2 n x1 v17 D k21))))
    refine pr_ck (fun hz4 => ?_)
    refine pr_ite (fun c9 => ?_) (fun c9 => ?_)
    exact hk21 _ _ _ 
    refine pr_let (fun v17 => ?_)
    exact ih _ _ _ 
theorem g_X49_putNumber_l21_pr  {k52 : ga_D → ga_S} (hk52 : ∀ (D : ga_D), ga_pr D (k52 D)) : ∀ (n : Nat) (x1 x3 : Int) (D : ga_D), ga_pr D (g_X49_putNumber_l21 n x1 x3 D k52) := by
  intro n
  induction n with
  | zero => intro x1 x3 D; exact pr_none
  | succ n ih =>
    intro x1 x3 D
    show ga_pr D (if x3 ≤ 0 then (k52 D) else (ga_ck (x3 ≠ 0) (ga_bind (g_X49_put (aw_w32 (aw_w64 (48 + (Int.tmod (aw_w64 (Int.tdiv x1 x3)) 10)))) D) (fun r40 D40 => ga_let (aw_w64 (Int.tdiv x3 10)) (fun v48 => g_X49_putNumber_l21 n x1 v48 D40 k52)))))
    refine pr_ite (fun c24 => ?_) (fun c24 => ?_)
    exact hk52 _ 
    refine pr_ck (fun hz33 => ?_)
    refine pr_bind (g_X49_put_pr) (fun r40 D40 => ?_)
    refine pr_let (fun v48 => ?_)
    exact ih _ _ _ 
theorem g_X49_putNumber_pr {x1 : Int} {D : ga_D} : ga_pr D (g_X49_putNumber x1 D) := by
  unfold g_X49_putNumber
  refine g_X49_putNumber_l2_pr (fun x1 x3 D21 => ?_) _ _ _ _ 
  refine g_X49_putNumber_l21_pr (fun D52 => ?_) _ _ _ _ 
  exact pr_some
theorem g_X49_print_j33_pr  {k17 : Int → Int → Int → ga_D → ga_S} (hk17 : ∀ (x1 x2 x3 : Int) (D : ga_D), ga_pr D (k17 x1 x2 x3 D)) (x1 x2 x3 : Int) (D : ga_D) : ga_pr D (g_X49_print_j33 x1 x2 x3 D k17) := by
  unfold g_X49_print_j33
  refine pr_bind (g_X49_at_pr) (fun r37 D37 => ?_)
  refine pr_bind (g_X49_putNumber_pr) (fun r40 D40 => ?_)
  refine pr_let (fun v43 => ?_)
  exact hk17 _ _ _ _ 
theorem g_X49_print_l17_pr  {k49 : Int → Int → ga_D → ga_S} (hk49 : ∀ (x1 x2 : Int) (D : ga_D), ga_pr D (k49 x1 x2 D)) : ∀ (n : Nat) (x1 x2 x3 : Int) (D : ga_D), ga_pr D (g_X49_print_l17 n x1 x2 x3 D k49) := by
  intro n
  induction n with
  | zero => intro x1 x2 x3 D; exact pr_none
  | succ n ih =>
    intro x1 x2 x3 D
    show ga_pr D (if 8 ≤ x3 then (k49 x1 x2 D) else (if x3 ≤ 0 then (g_X49_print_j33 x1 x2 x3 D (fun x1 x2 x3 D17 => g_X49_print_l17 n x1 x2 x3 D17 k49)) else (ga_bind (g_X49_put 32 D) (fun r30 D30 => g_X49_print_j33 x1 x2 x3 D30 (fun x1 x2 x3 D17 => g_X49_print_l17 n x1 x2 x3 D17 k49)))))
    refine pr_ite (fun c20 => ?_) (fun c20 => ?_)
    exact hk49 _ _ _ 
    refine pr_ite (fun c24 => ?_) (fun c24 => ?_)
    refine g_X49_print_j33_pr (fun x1 x2 x3 D17 => ?_) _ _ _ _ 
    exact ih _ _ _ _ 
    refine pr_bind (g_X49_put_pr) (fun r30 D30 => ?_)
    refine g_X49_print_j33_pr (fun x1 x2 x3 D17 => ?_) _ _ _ _ 
    exact ih _ _ _ _ 
theorem g_X49_print_j104_pr  (x2 : Int) (D : ga_D) : ga_pr D (g_X49_print_j104 x2 D) := by
  unfold g_X49_print_j104
  refine pr_ite (fun c105 => ?_) (fun c105 => ?_)
  exact pr_some
  refine pr_ite (fun c113 => ?_) (fun c113 => ?_)
  exact pr_some
  refine pr_ck (fun ha121 => ?_)
  exact pr_some
theorem g_X49_print_pr {x1 x2 : Int} {D : ga_D} : ga_pr D (g_X49_print x1 x2 D) := by
  unfold g_X49_print
  refine pr_bind (g_X49_isTicket_pr) (fun r2 D2 => ?_)
  refine pr_ite (fun c5 => ?_) (fun c5 => ?_)
  refine pr_upd (ga_Pn K_5145 rfl) (fun D12 => ?_)
  refine g_X49_print_l17_pr (fun x1 x2 D49 => ?_) _ _ _ _ _ 
  refine pr_bind (g_X49_isVoid_pr) (fun r51 D51 => ?_)
  refine pr_ite (fun c54 => ?_) (fun c54 => ?_)
  refine g_X49_print_j104_pr _ _ 
  refine pr_bind (g_X49_put_pr) (fun r60 D60 => ?_)
  refine pr_bind (g_X49_put_pr) (fun r66 D66 => ?_)
  refine pr_bind (g_X49_put_pr) (fun r72 D72 => ?_)
  refine pr_bind (g_X49_put_pr) (fun r78 D78 => ?_)
  refine pr_bind (g_X49_put_pr) (fun r84 D84 => ?_)
  refine pr_bind (g_X49_put_pr) (fun r90 D90 => ?_)
  refine pr_bind (g_X49_at_pr) (fun r98 D98 => ?_)
  refine pr_bind (g_X49_putNumber_pr) (fun r101 D101 => ?_)
  refine g_X49_print_j104_pr _ _ 
  exact pr_some
theorem g_X49_isRow_pr {x1 : Int} {D : ga_D} : ga_pr D (g_X49_isRow x1 D) := by
  unfold g_X49_isRow
  refine pr_upd (ga_Pn K_5145 rfl) (fun D2 => ?_)
  refine pr_ite (fun c6 => ?_) (fun c6 => ?_)
  exact pr_some
  refine pr_ite (fun c14 => ?_) (fun c14 => ?_)
  exact pr_some
  exact pr_some
theorem g_X49_poke_pr {x1 x2 x3 : Int} {D : ga_D} : ga_pr D (g_X49_poke x1 x2 x3 D) := by
  unfold g_X49_poke
  refine pr_bind (g_X49_isRow_pr) (fun r2 D2 => ?_)
  refine pr_ite (fun c5 => ?_) (fun c5 => ?_)
  exact pr_some
  refine pr_bind (g_X49_isIn_pr) (fun r13 D13 => ?_)
  refine pr_ite (fun c16 => ?_) (fun c16 => ?_)
  exact pr_some
  refine pr_ite (fun c21 => ?_) (fun c21 => ?_)
  exact pr_some
  refine pr_ite (fun c28 => ?_) (fun c28 => ?_)
  refine pr_ck (fun ha53 => ?_)
  refine pr_ck (fun ha57 => ?_)
  refine pr_upd (ga_Pn K_5154 rfl) (fun D57 => ?_)
  exact pr_some
  exact pr_some
theorem g_X49_byteAt_j25_pr  (x1 x2 s0 : Int) (D : ga_D) : ga_pr D (g_X49_byteAt_j25 x1 x2 s0 D) := by
  unfold g_X49_byteAt_j25
  refine pr_upd (ga_Pn K_5145 rfl) (fun D25 => ?_)
  refine pr_ite (fun c32 => ?_) (fun c32 => ?_)
  refine pr_ck (fun ha49 => ?_)
  exact pr_some
  exact pr_some
theorem g_X49_byteAt_j20_pr  (x1 x2 : Int) (D : ga_D) : ga_pr D (g_X49_byteAt_j20 x1 x2 D) := by
  unfold g_X49_byteAt_j20
  refine g_X49_byteAt_j25_pr _ _ _ _ 
theorem g_X49_byteAt_pr {x1 x2 : Int} {D : ga_D} : ga_pr D (g_X49_byteAt x1 x2 D) := by
  unfold g_X49_byteAt
  refine pr_bind (g_X49_isRow_pr) (fun r3 D3 => ?_)
  refine pr_ite (fun c6 => ?_) (fun c6 => ?_)
  refine g_X49_byteAt_j20_pr _ _ _ 
  refine pr_bind (g_X49_isIn_pr) (fun r14 D14 => ?_)
  refine pr_ite (fun c17 => ?_) (fun c17 => ?_)
  refine g_X49_byteAt_j25_pr _ _ _ _ 
  refine g_X49_byteAt_j20_pr _ _ _ 
theorem g_X49_digest_pr {x1 x2 : Int} {D : ga_D} : ga_pr D (g_X49_digest x1 x2 D) := by
  unfold g_X49_digest
  refine pr_bind (g_X49_isRow_pr) (fun r2 D2 => ?_)
  refine pr_ite (fun c5 => ?_) (fun c5 => ?_)
  exact pr_some
  refine pr_bind (g_X49_isIn_pr) (fun r13 D13 => ?_)
  refine pr_ite (fun c16 => ?_) (fun c16 => ?_)
  exact pr_some
  refine pr_ck (fun ha32 => ?_)
  exact pr_some
theorem g_X49_pair_l53_pr  {k82 : Int → ga_D → ga_S} (hk82 : ∀ (x2 : Int) (D : ga_D), ga_pr D (k82 x2 D)) : ∀ (n : Nat) (x1 x2 x4 : Int) (D : ga_D), ga_pr D (g_X49_pair_l53 n x1 x2 x4 D k82) := by
  intro n
  induction n with
  | zero => intro x1 x2 x4 D; exact pr_none
  | succ n ih =>
    intro x1 x2 x4 D
    show ga_pr D (if 64 ≤ x4 then (k82 x2 D) else (ga_ck (0 ≤ aw_w32 ((aw_w32 (32 * x1)) + x4) ∧ aw_w32 ((aw_w32 (32 * x1)) + x4) < 6400) (ga_bind (g_X49_lay (D 5161 (aw_w32 ((aw_w32 (32 * x1)) + x4))) D) (fun r73 D73 => ga_let (aw_w32 (x4 + 1)) (fun v76 => g_X49_pair_l53 n x1 x2 v76 D73 k82)))))
    refine pr_ite (fun c57 => ?_) (fun c57 => ?_)
    exact hk82 _ _ 
    refine pr_ck (fun ha72 => ?_)
    refine pr_bind (g_X49_lay_pr) (fun r73 D73 => ?_)
    refine pr_let (fun v76 => ?_)
    exact ih _ _ _ _ 
theorem g_X49_pair_l89_pr  {k121 : ga_D → ga_S} (hk121 : ∀ (D : ga_D), ga_pr D (k121 D)) : ∀ (n : Nat) (x2 x4 : Int) (D : ga_D), ga_pr D (g_X49_pair_l89 n x2 x4 D k121) := by
  intro n
  induction n with
  | zero => intro x2 x4 D; exact pr_none
  | succ n ih =>
    intro x2 x4 D
    show ga_pr D (if 32 ≤ x4 then (k121 D) else (ga_ck (0 ≤ x4 ∧ x4 < 32) (ga_ck (0 ≤ aw_w32 ((aw_w32 (32 * x2)) + x4) ∧ aw_w32 ((aw_w32 (32 * x2)) + x4) < 6400 ∧ (-128) ≤ D 5157 x4 ∧ D 5157 x4 < 128) (ga_let (ga_set D 5161 (aw_w32 ((aw_w32 (32 * x2)) + x4)) (D 5157 x4)) (fun D114 => ga_let (aw_w32 (x4 + 1)) (fun v115 => g_X49_pair_l89 n x2 v115 D114 k121))))))
    refine pr_ite (fun c93 => ?_) (fun c93 => ?_)
    exact hk121 _ 
    refine pr_ck (fun ha113 => ?_)
    refine pr_ck (fun ha114 => ?_)
    refine pr_upd (ga_Pn K_5161 rfl) (fun D114 => ?_)
    refine pr_let (fun v115 => ?_)
    exact ih _ _ _ 
theorem g_X49_pair_l7_pr  {k44 : ga_D → ga_S} (hk44 : ∀ (D : ga_D), ga_pr D (k44 D)) : ∀ (n : Nat) (x1 x2 x4 : Int) (D : ga_D), ga_pr D (g_X49_pair_l7 n x1 x2 x4 D k44) := by
  intro n
  induction n with
  | zero => intro x1 x2 x4 D; exact pr_none
  | succ n ih =>
    intro x1 x2 x4 D
    show ga_pr D (if 32 ≤ x4 then (k44 D) else (ga_ck (0 ≤ aw_w32 ((aw_w32 (32 * x1)) + x4) ∧ aw_w32 ((aw_w32 (32 * x1)) + x4) < 6400) (ga_ck (0 ≤ aw_w32 ((aw_w32 (32 * x2)) + x4) ∧ aw_w32 ((aw_w32 (32 * x2)) + x4) < 6400 ∧ (-128) ≤ D 5161 (aw_w32 ((aw_w32 (32 * x1)) + x4)) ∧ D 5161 (aw_w32 ((aw_w32 (32 * x1)) + x4)) < 128) (ga_let (ga_set D 5161 (aw_w32 ((aw_w32 (32 * x2)) + x4)) (D 5161 (aw_w32 ((aw_w32 (32 * x1)) + x4)))) (fun D37 => ga_let (aw_w32 (x4 + 1)) (fun v38 => g_X49_pair_l7 n x1 x2 v38 D37 k44))))))
    refine pr_ite (fun c11 => ?_) (fun c11 => ?_)
    exact hk44 _ 
    refine pr_ck (fun ha36 => ?_)
    refine pr_ck (fun ha37 => ?_)
    refine pr_upd (ga_Pn K_5161 rfl) (fun D37 => ?_)
    refine pr_let (fun v38 => ?_)
    exact ih _ _ _ _ 
theorem g_X49_pair_pr {x1 x2 x3 : Int} {D : ga_D} : ga_pr D (g_X49_pair x1 x2 x3 D) := by
  unfold g_X49_pair
  refine pr_ite (fun c1 => ?_) (fun c1 => ?_)
  refine pr_upd (ga_Pn K_5145 rfl) (fun D47 => ?_)
  refine g_X49_pair_l53_pr (fun x2 D82 => ?_) _ _ _ _ _ 
  refine pr_bind (g_X49_reckon_pr) (fun r83 D83 => ?_)
  refine g_X49_pair_l89_pr (fun D121 => ?_) _ _ _ _ 
  exact pr_some
  refine g_X49_pair_l7_pr (fun D44 => ?_) _ _ _ _ _ 
  exact pr_some
theorem g_X49_root_l33_pr  {k74 : Int → Int → Int → Int → ga_D → ga_S} (hk74 : ∀ (x1 x2 x3 x4 : Int) (D : ga_D), ga_pr D (k74 x1 x2 x3 x4 D)) : ∀ (n : Nat) (x1 x2 x3 x4 x5 : Int) (D : ga_D), ga_pr D (g_X49_root_l33 n x1 x2 x3 x4 x5 D k74) := by
  intro n
  induction n with
  | zero => intro x1 x2 x3 x4 x5 D; exact pr_none
  | succ n ih =>
    intro x1 x2 x3 x4 x5 D
    show ga_pr D (if 32 ≤ x5 then (k74 x1 x2 x3 x4 D) else (ga_ck (0 ≤ aw_w32 ((aw_w32 ((aw_w32 (73 * x4)) + 41)) + x5) ∧ aw_w32 ((aw_w32 ((aw_w32 (73 * x4)) + 41)) + x5) < 14600) (ga_ck (0 ≤ aw_w32 ((aw_w32 (32 * x3)) + x5) ∧ aw_w32 ((aw_w32 (32 * x3)) + x5) < 6400 ∧ (-128) ≤ D 5154 (aw_w32 ((aw_w32 ((aw_w32 (73 * x4)) + 41)) + x5)) ∧ D 5154 (aw_w32 ((aw_w32 ((aw_w32 (73 * x4)) + 41)) + x5)) < 128) (ga_let (ga_set D 5161 (aw_w32 ((aw_w32 (32 * x3)) + x5)) (D 5154 (aw_w32 ((aw_w32 ((aw_w32 (73 * x4)) + 41)) + x5)))) (fun D67 => ga_let (aw_w32 (x5 + 1)) (fun v68 => g_X49_root_l33 n x1 x2 x3 x4 v68 D67 k74))))))
    refine pr_ite (fun c37 => ?_) (fun c37 => ?_)
    exact hk74 _ _ _ _ _ 
    refine pr_ck (fun ha66 => ?_)
    refine pr_ck (fun ha67 => ?_)
    refine pr_upd (ga_Pn K_5161 rfl) (fun D67 => ?_)
    refine pr_let (fun v68 => ?_)
    exact ih _ _ _ _ _ _ 
theorem g_X49_root_l10_pr  {k83 : Int → Int → ga_D → ga_S} (hk83 : ∀ (x2 x3 : Int) (D : ga_D), ga_pr D (k83 x2 x3 D)) : ∀ (n : Nat) (x1 x2 x3 x4 : Int) (D : ga_D), ga_pr D (g_X49_root_l10 n x1 x2 x3 x4 D k83) := by
  intro n
  induction n with
  | zero => intro x1 x2 x3 x4 D; exact pr_none
  | succ n ih =>
    intro x1 x2 x3 x4 D
    show ga_pr D (if D 5145 14 ≤ x4 then (k83 x2 x3 D) else (ga_ck (0 ≤ x4 ∧ x4 < 200) (if D 5155 x4 ≠ x1 then (ga_let (aw_w32 (x4 + 1)) (fun v77 => g_X49_root_l10 n x1 x2 x3 v77 D k83)) else (g_X49_root_l33 aw_fu x1 x2 x3 x4 0 D (fun x1 x2 x3 x4 D74 => ga_let (aw_w32 (x3 + 1)) (fun v74 => ga_let (aw_w32 (x4 + 1)) (fun v77 => g_X49_root_l10 n x1 x2 v74 v77 D74 k83)))))))
    refine pr_ite (fun c16 => ?_) (fun c16 => ?_)
    exact hk83 _ _ _ 
    refine pr_ck (fun ha25 => ?_)
    refine pr_ite (fun c27 => ?_) (fun c27 => ?_)
    refine pr_let (fun v77 => ?_)
    exact ih _ _ _ _ _ 
    refine g_X49_root_l33_pr (fun x1 x2 x3 x4 D74 => ?_) _ _ _ _ _ _ _ 
    refine pr_let (fun v74 => ?_)
    refine pr_let (fun v77 => ?_)
    exact ih _ _ _ _ _ 
theorem g_X49_root_j135_pr  {k111 : Int → Int → Int → Int → ga_D → ga_S} (hk111 : ∀ (x2 x3 x4 x5 : Int) (D : ga_D), ga_pr D (k111 x2 x3 x4 x5 D)) (x2 x3 x4 x5 s0 s1 s2 : Int) (D : ga_D) : ga_pr D (g_X49_root_j135 x2 x3 x4 x5 s0 s1 s2 D k111) := by
  unfold g_X49_root_j135
  refine pr_bind (g_X49_pair_pr) (fun r135 D135 => ?_)
  refine pr_let (fun v138 => ?_)
  refine pr_let (fun v141 => ?_)
  exact hk111 _ _ _ _ _ 
theorem g_X49_root_l111_pr  {k147 : Int → Int → ga_D → ga_S} (hk147 : ∀ (x2 x4 : Int) (D : ga_D), ga_pr D (k147 x2 x4 D)) : ∀ (n : Nat) (x2 x3 x4 x5 : Int) (D : ga_D), ga_pr D (g_X49_root_l111 n x2 x3 x4 x5 D k147) := by
  intro n
  induction n with
  | zero => intro x2 x3 x4 x5 D; exact pr_none
  | succ n ih =>
    intro x2 x3 x4 x5 D
    show ga_pr D (if x3 ≤ x5 then (k147 x2 x4 D) else (if x3 ≤ aw_w32 (x5 + 1) then (g_X49_root_j135 x2 x3 x4 x5 0 x4 x5 D (fun x2 x3 x4 x5 D111 => g_X49_root_l111 n x2 x3 x4 x5 D111 k147)) else (g_X49_root_j135 x2 x3 x4 x5 1 x4 x5 D (fun x2 x3 x4 x5 D111 => g_X49_root_l111 n x2 x3 x4 x5 D111 k147))))
    refine pr_ite (fun c114 => ?_) (fun c114 => ?_)
    exact hk147 _ _ _ 
    refine pr_ite (fun c127 => ?_) (fun c127 => ?_)
    refine g_X49_root_j135_pr (fun x2 x3 x4 x5 D111 => ?_) _ _ _ _ _ _ _ _ 
    exact ih _ _ _ _ _ 
    refine g_X49_root_j135_pr (fun x2 x3 x4 x5 D111 => ?_) _ _ _ _ _ _ _ _ 
    exact ih _ _ _ _ _ 
theorem g_X49_root_l100_pr  {k153 : Int → ga_D → ga_S} (hk153 : ∀ (x2 : Int) (D : ga_D), ga_pr D (k153 x2 D)) : ∀ (n : Nat) (x2 x3 : Int) (D : ga_D), ga_pr D (g_X49_root_l100 n x2 x3 D k153) := by
  intro n
  induction n with
  | zero => intro x2 x3 D; exact pr_none
  | succ n ih =>
    intro x2 x3 D
    show ga_pr D (if x3 ≤ 1 then (k153 x2 D) else (g_X49_root_l111 aw_fu x2 x3 0 0 D (fun x2 x4 D147 => g_X49_root_l100 n x2 x4 D147 k153)))
    refine pr_ite (fun c102 => ?_) (fun c102 => ?_)
    exact hk153 _ _ 
    refine g_X49_root_l111_pr (fun x2 x4 D147 => ?_) _ _ _ _ _ _ 
    exact ih _ _ _ 
theorem g_X49_root_pr {x1 x2 : Int} {D : ga_D} : ga_pr D (g_X49_root x1 x2 D) := by
  unfold g_X49_root
  refine pr_upd (ga_Pn K_5145 rfl) (fun D2 => ?_)
  refine g_X49_root_l10_pr (fun x2 x3 D83 => ?_) _ _ _ _ _ _ 
  refine pr_ite (fun c84 => ?_) (fun c84 => ?_)
  exact pr_some
  refine pr_bind (g_X49_isIn_pr) (fun r92 D92 => ?_)
  refine pr_ite (fun c95 => ?_) (fun c95 => ?_)
  refine g_X49_root_l100_pr (fun x2 D153 => ?_) _ _ _ _ 
  refine pr_ck (fun ha158 => ?_)
  exact pr_some
  exact pr_some
theorem g_X49_thrown_pr {D : ga_D} : ga_pr D (g_X49_thrown D) := by
  unfold g_X49_thrown
  exact pr_some
