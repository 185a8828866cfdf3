theorem g_X55_isKind_pr {x0 : Int} {D : ga_D} : ga_pr D (g_X55_isKind x0 D) := by
  unfold g_X55_isKind
  refine pr_ite (fun c1 => ?_) (fun c1 => ?_)
  exact pr_some
  refine pr_ite (fun c7 => ?_) (fun c7 => ?_)
  exact pr_some
  exact pr_some
theorem g_X55_isCents_pr {x0 : Int} {D : ga_D} : ga_pr D (g_X55_isCents x0 D) := by
  unfold g_X55_isCents
  refine pr_ite (fun c3 => ?_) (fun c3 => ?_)
  exact pr_some
  refine pr_ite (fun c11 => ?_) (fun c11 => ?_)
  exact pr_some
  exact pr_some
theorem g_X55_act_pr {x1 x2 x3 x4 : Int} {D : ga_D} : ga_pr D (g_X55_act x1 x2 x3 x4 D) := by
  unfold g_X55_act
  refine pr_ite (fun c6 => ?_) (fun c6 => ?_)
  exact pr_some
  refine pr_ite (fun c11 => ?_) (fun c11 => ?_)
  exact pr_some
  refine pr_ite (fun c17 => ?_) (fun c17 => ?_)
  exact pr_some
  refine pr_bind (g_X55_isKind_pr) (fun r21 D21 => ?_)
  refine pr_ite (fun c24 => ?_) (fun c24 => ?_)
  exact pr_some
  refine pr_bind (g_X55_isKind_pr) (fun r28 D28 => ?_)
  refine pr_ite (fun c31 => ?_) (fun c31 => ?_)
  exact pr_some
  refine pr_bind (g_X55_isCents_pr) (fun r36 D36 => ?_)
  refine pr_ite (fun c39 => ?_) (fun c39 => ?_)
  refine pr_ck (fun ha53 => ?_)
  refine pr_upd (ga_Pn K_5264 rfl) (fun D53 => ?_)
  refine pr_ck (fun ha63 => ?_)
  refine pr_upd (ga_Pn K_5265 rfl) (fun D63 => ?_)
  refine pr_ck (fun ha73 => ?_)
  refine pr_upd (ga_Pn K_5266 rfl) (fun D73 => ?_)
  refine pr_ck (fun ha84 => ?_)
  refine pr_upd (ga_Pn K_5267 rfl) (fun D84 => ?_)
  refine pr_upd (ga_Pn K_5263 rfl) (fun D92 => ?_)
  refine pr_upd (ga_Pn K_5263 rfl) (fun D97 => ?_)
  exact pr_some
  exact pr_some
theorem g_X55_isAct_pr {x1 : Int} {D : ga_D} : ga_pr D (g_X55_isAct x1 D) := by
  unfold g_X55_isAct
  refine pr_ite (fun c1 => ?_) (fun c1 => ?_)
  exact pr_some
  refine pr_ite (fun c9 => ?_) (fun c9 => ?_)
  exact pr_some
  exact pr_some
theorem g_X55_leadsTo_l31_pr  {k83 : Int → Int → Int → Int → ga_D → ga_S} (hk83 : ∀ (x2 x3 x4 x5 : Int) (D : ga_D), ga_pr D (k83 x2 x3 x4 x5 D)) : ∀ (n : Nat) (x2 x3 x4 x5 x6 : Int) (D : ga_D), ga_pr D (g_X55_leadsTo_l31 n x2 x3 x4 x5 x6 D k83) := by
  intro n
  induction n with
  | zero => intro x2 x3 x4 x5 x6 D; exact pr_none
  | succ n ih =>
    intro x2 x3 x4 x5 x6 D
    show ga_pr D (if D 5263 0 ≤ x6 then (k83 x2 x3 x4 x5 D) else (if aw_and (aw_shr x3 x5) 1 ≠ 1 then (ga_let (aw_w32 (x6 + 1)) (fun v77 => g_X55_leadsTo_l31 n x2 x3 x4 x5 v77 D k83)) else (ga_ck (0 ≤ aw_w32 ((aw_w32 (10 * x5)) + x6) ∧ aw_w32 ((aw_w32 (10 * x5)) + x6) < 100) (if D 5269 (aw_w32 ((aw_w32 (10 * x5)) + x6)) = 0 then (ga_let (aw_w32 (x6 + 1)) (fun v77 => g_X55_leadsTo_l31 n x2 x3 x4 x5 v77 D k83)) else (ga_let (aw_or x3 (aw_shl 1 x6)) (fun v76 => ga_let (aw_w32 (x6 + 1)) (fun v77 => g_X55_leadsTo_l31 n x2 v76 x4 x5 v77 D k83)))))))
    refine pr_ite (fun c37 => ?_) (fun c37 => ?_)
    exact hk83 _ _ _ _ _ 
    refine pr_ite (fun c47 => ?_) (fun c47 => ?_)
    refine pr_let (fun v77 => ?_)
    exact ih _ _ _ _ _ _ 
    refine pr_ck (fun ha62 => ?_)
    refine pr_ite (fun c63 => ?_) (fun c63 => ?_)
    refine pr_let (fun v77 => ?_)
    exact ih _ _ _ _ _ _ 
    refine pr_let (fun v76 => ?_)
    refine pr_let (fun v77 => ?_)
    exact ih _ _ _ _ _ _ 
theorem g_X55_leadsTo_l19_pr  {k89 : Int → Int → Int → ga_D → ga_S} (hk89 : ∀ (x2 x3 x4 : Int) (D : ga_D), ga_pr D (k89 x2 x3 x4 D)) : ∀ (n : Nat) (x2 x3 x4 x5 : Int) (D : ga_D), ga_pr D (g_X55_leadsTo_l19 n x2 x3 x4 x5 D k89) := by
  intro n
  induction n with
  | zero => intro x2 x3 x4 x5 D; exact pr_none
  | succ n ih =>
    intro x2 x3 x4 x5 D
    show ga_pr D (if D 5263 0 ≤ x5 then (k89 x2 x3 x4 D) else (g_X55_leadsTo_l31 aw_fu x2 x3 x4 x5 0 D (fun x2 x3 x4 x5 D83 => ga_let (aw_w32 (x5 + 1)) (fun v83 => g_X55_leadsTo_l19 n x2 x3 x4 v83 D83 k89))))
    refine pr_ite (fun c25 => ?_) (fun c25 => ?_)
    exact hk89 _ _ _ _ 
    refine g_X55_leadsTo_l31_pr (fun x2 x3 x4 x5 D83 => ?_) _ _ _ _ _ _ _ 
    refine pr_let (fun v83 => ?_)
    exact ih _ _ _ _ _ 
theorem g_X55_leadsTo_l7_pr  {k95 : Int → Int → ga_D → ga_S} (hk95 : ∀ (x2 x3 : Int) (D : ga_D), ga_pr D (k95 x2 x3 D)) : ∀ (n : Nat) (x2 x3 x4 : Int) (D : ga_D), ga_pr D (g_X55_leadsTo_l7 n x2 x3 x4 D k95) := by
  intro n
  induction n with
  | zero => intro x2 x3 x4 D; exact pr_none
  | succ n ih =>
    intro x2 x3 x4 D
    show ga_pr D (if D 5263 0 ≤ x4 then (k95 x2 x3 D) else (g_X55_leadsTo_l19 aw_fu x2 x3 x4 0 D (fun x2 x3 x4 D89 => ga_let (aw_w32 (x4 + 1)) (fun v89 => g_X55_leadsTo_l7 n x2 x3 v89 D89 k95))))
    refine pr_ite (fun c13 => ?_) (fun c13 => ?_)
    exact hk95 _ _ _ 
    refine g_X55_leadsTo_l19_pr (fun x2 x3 x4 D89 => ?_) _ _ _ _ _ _ 
    refine pr_let (fun v89 => ?_)
    exact ih _ _ _ _ 
theorem g_X55_leadsTo_pr {x1 x2 : Int} {D : ga_D} : ga_pr D (g_X55_leadsTo x1 x2 D) := by
  unfold g_X55_leadsTo
  refine pr_let (fun v3 => ?_)
  refine g_X55_leadsTo_l7_pr (fun x2 x3 D95 => ?_) _ _ _ _ _ 
  refine pr_ite (fun c101 => ?_) (fun c101 => ?_)
  exact pr_some
  exact pr_some
theorem g_X55_before_pr {x1 x2 : Int} {D : ga_D} : ga_pr D (g_X55_before x1 x2 D) := by
  unfold g_X55_before
  refine pr_bind (g_X55_isAct_pr) (fun r2 D2 => ?_)
  refine pr_ite (fun c5 => ?_) (fun c5 => ?_)
  exact pr_some
  refine pr_bind (g_X55_isAct_pr) (fun r10 D10 => ?_)
  refine pr_ite (fun c13 => ?_) (fun c13 => ?_)
  exact pr_some
  refine pr_ite (fun c18 => ?_) (fun c18 => ?_)
  exact pr_some
  refine pr_bind (g_X55_leadsTo_pr) (fun r24 D24 => ?_)
  refine pr_ite (fun c27 => ?_) (fun c27 => ?_)
  refine pr_ck (fun ha43 => ?_)
  refine pr_upd (ga_Pn K_5269 rfl) (fun D43 => ?_)
  refine pr_upd (ga_Pn K_5263 rfl) (fun D46 => ?_)
  exact pr_some
  exact pr_some
theorem g_X55_change_pr {x1 x2 x3 : Int} {D : ga_D} : ga_pr D (g_X55_change x1 x2 x3 D) := by
  unfold g_X55_change
  refine pr_bind (g_X55_isKind_pr) (fun r1 D1 => ?_)
  refine pr_ite (fun c4 => ?_) (fun c4 => ?_)
  exact pr_some
  refine pr_bind (g_X55_isKind_pr) (fun r8 D8 => ?_)
  refine pr_ite (fun c11 => ?_) (fun c11 => ?_)
  exact pr_some
  refine pr_ite (fun c16 => ?_) (fun c16 => ?_)
  exact pr_some
  refine pr_bind (g_X55_isCents_pr) (fun r20 D20 => ?_)
  refine pr_ite (fun c23 => ?_) (fun c23 => ?_)
  refine pr_ck (fun ha39 => ?_)
  refine pr_upd (ga_Pn K_5270 rfl) (fun D39 => ?_)
  refine pr_upd (ga_Pn K_5263 rfl) (fun D42 => ?_)
  exact pr_some
  exact pr_some
theorem g_X55_turn_pr {x1 x2 x3 : Int} {D : ga_D} : ga_pr D (g_X55_turn x1 x2 x3 D) := by
  unfold g_X55_turn
  refine pr_bind (g_X55_isKind_pr) (fun r1 D1 => ?_)
  refine pr_ite (fun c4 => ?_) (fun c4 => ?_)
  exact pr_some
  refine pr_bind (g_X55_isKind_pr) (fun r8 D8 => ?_)
  refine pr_ite (fun c11 => ?_) (fun c11 => ?_)
  exact pr_some
  refine pr_ite (fun c16 => ?_) (fun c16 => ?_)
  exact pr_some
  refine pr_bind (g_X55_isCents_pr) (fun r20 D20 => ?_)
  refine pr_ite (fun c23 => ?_) (fun c23 => ?_)
  refine pr_ck (fun ha39 => ?_)
  refine pr_upd (ga_Pn K_5271 rfl) (fun D39 => ?_)
  refine pr_upd (ga_Pn K_5263 rfl) (fun D42 => ?_)
  exact pr_some
  exact pr_some
theorem g_X55_isPart_pr {x0 : Int} {D : ga_D} : ga_pr D (g_X55_isPart x0 D) := by
  unfold g_X55_isPart
  refine pr_ite (fun c1 => ?_) (fun c1 => ?_)
  exact pr_some
  refine pr_ite (fun c7 => ?_) (fun c7 => ?_)
  exact pr_some
  exact pr_some
theorem g_X55_isWorth_pr {x0 : Int} {D : ga_D} : ga_pr D (g_X55_isWorth x0 D) := by
  unfold g_X55_isWorth
  refine pr_ite (fun c5 => ?_) (fun c5 => ?_)
  exact pr_some
  refine pr_ite (fun c13 => ?_) (fun c13 => ?_)
  exact pr_some
  exact pr_some
theorem g_X55_worth_pr {x1 x2 : Int} {D : ga_D} : ga_pr D (g_X55_worth x1 x2 D) := by
  unfold g_X55_worth
  refine pr_bind (g_X55_isPart_pr) (fun r1 D1 => ?_)
  refine pr_ite (fun c4 => ?_) (fun c4 => ?_)
  exact pr_some
  refine pr_bind (g_X55_isWorth_pr) (fun r8 D8 => ?_)
  refine pr_ite (fun c11 => ?_) (fun c11 => ?_)
  refine pr_ck (fun ha22 => ?_)
  refine pr_upd (ga_Pn K_5272 rfl) (fun D22 => ?_)
  refine pr_upd (ga_Pn K_5263 rfl) (fun D25 => ?_)
  exact pr_some
  exact pr_some
theorem g_X55_rest_l26_pr  {k54 : Int → Int → Int → ga_D → ga_S} (hk54 : ∀ (x1 x3 x5 : Int) (D : ga_D), ga_pr D (k54 x1 x3 x5 D)) : ∀ (n : Nat) (x1 x3 x5 : Int) (D : ga_D), ga_pr D (g_X55_rest_l26 n x1 x3 x5 D k54) := by
  intro n
  induction n with
  | zero => intro x1 x3 x5 D; exact pr_none
  | succ n ih =>
    intro x1 x3 x5 D
    show ga_pr D (if D 5263 14 ≤ x5 then (k54 x1 x3 x5 D) else (ga_ck (0 ≤ x5 ∧ x5 < 16) (if D 5275 x5 = x1 then (k54 x1 x3 x5 D) else (ga_let (aw_w32 (x5 + 1)) (fun v48 => g_X55_rest_l26 n x1 x3 v48 D k54)))))
    refine pr_ite (fun c32 => ?_) (fun c32 => ?_)
    exact hk54 _ _ _ _ 
    refine pr_ck (fun ha41 => ?_)
    refine pr_ite (fun c45 => ?_) (fun c45 => ?_)
    exact hk54 _ _ _ _ 
    refine pr_let (fun v48 => ?_)
    exact ih _ _ _ _ 
theorem g_X55_rest_j54_pr  (x1 x3 x5 : Int) (D : ga_D) : ga_pr D (g_X55_rest_j54 x1 x3 x5 D) := by
  unfold g_X55_rest_j54
  refine pr_ite (fun c58 => ?_) (fun c58 => ?_)
  refine pr_ck (fun ha71 => ?_)
  refine pr_upd (ga_Pn K_5275 rfl) (fun D71 => ?_)
  refine pr_ck (fun ha79 => ?_)
  refine pr_upd (ga_Pn K_5276 rfl) (fun D79 => ?_)
  refine pr_ite (fun c87 => ?_) (fun c87 => ?_)
  refine pr_upd (ga_Pn K_5263 rfl) (fun D103 => ?_)
  refine pr_upd (ga_Pn K_5263 rfl) (fun D108 => ?_)
  exact pr_some
  refine pr_upd (ga_Pn K_5263 rfl) (fun D103 => ?_)
  refine pr_upd (ga_Pn K_5263 rfl) (fun D108 => ?_)
  exact pr_some
  exact pr_some
theorem g_X55_rest_pr {x1 x3 : Int} {D : ga_D} : ga_pr D (g_X55_rest x1 x3 D) := by
  unfold g_X55_rest
  refine pr_ite (fun c3 => ?_) (fun c3 => ?_)
  exact pr_some
  refine pr_ite (fun c11 => ?_) (fun c11 => ?_)
  exact pr_some
  refine pr_bind (g_X55_isWorth_pr) (fun r15 D15 => ?_)
  refine pr_ite (fun c18 => ?_) (fun c18 => ?_)
  refine g_X55_rest_l26_pr (fun x1 x3 x5 D54 => ?_) _ _ _ _ _ 
  refine g_X55_rest_j54_pr _ _ _ _ 
  exact pr_some
theorem g_X55_breaks_pr {x1 : Int} {D : ga_D} : ga_pr D (g_X55_breaks x1 D) := by
  unfold g_X55_breaks
  refine pr_bind (g_X55_isAct_pr) (fun r2 D2 => ?_)
  refine pr_ite (fun c5 => ?_) (fun c5 => ?_)
  exact pr_some
  refine pr_ck (fun ha13 => ?_)
  refine pr_ite (fun c14 => ?_) (fun c14 => ?_)
  refine pr_ck (fun ha25 => ?_)
  refine pr_upd (ga_Pn K_5268 rfl) (fun D25 => ?_)
  refine pr_upd (ga_Pn K_5263 rfl) (fun D28 => ?_)
  exact pr_some
  exact pr_some
theorem g_X55_sure_pr {x1 x2 x4 : Int} {D : ga_D} : ga_pr D (g_X55_sure x1 x2 x4 D) := by
  unfold g_X55_sure
  refine pr_bind (g_X55_isPart_pr) (fun r1 D1 => ?_)
  refine pr_ite (fun c4 => ?_) (fun c4 => ?_)
  exact pr_some
  refine pr_ite (fun c11 => ?_) (fun c11 => ?_)
  exact pr_some
  refine pr_ite (fun c20 => ?_) (fun c20 => ?_)
  exact pr_some
  refine pr_ite (fun c26 => ?_) (fun c26 => ?_)
  exact pr_some
  refine pr_ite (fun c33 => ?_) (fun c33 => ?_)
  refine pr_ck (fun ha45 => ?_)
  refine pr_upd (ga_Pn K_5273 rfl) (fun D45 => ?_)
  refine pr_ck (fun ha54 => ?_)
  refine pr_upd (ga_Pn K_5274 rfl) (fun D54 => ?_)
  refine pr_upd (ga_Pn K_5263 rfl) (fun D57 => ?_)
  exact pr_some
  exact pr_some
theorem g_X55_has_pr {x0 x1 : Int} {D : ga_D} : ga_pr D (g_X55_has x0 x1 D) := by
  unfold g_X55_has
  refine pr_ite (fun c6 => ?_) (fun c6 => ?_)
  exact pr_some
  exact pr_some
theorem g_X55_isClosed_l15_pr  {k72 : Int → Int → Int → ga_D → ga_S} (hk72 : ∀ (x1 x2 x3 : Int) (D : ga_D), ga_pr D (k72 x1 x2 x3 D)) : ∀ (n : Nat) (x1 x2 x3 x4 : Int) (D : ga_D), ga_pr D (g_X55_isClosed_l15 n x1 x2 x3 x4 D k72) := by
  intro n
  induction n with
  | zero => intro x1 x2 x3 x4 D; exact pr_none
  | succ n ih =>
    intro x1 x2 x3 x4 D
    show ga_pr D (if D 5263 0 ≤ x4 then (k72 x1 x2 x3 D) else (if x2 = 0 then (ga_let (aw_w32 (x4 + 1)) (fun v66 => g_X55_isClosed_l15 n x1 0 x3 v66 D k72)) else (ga_bind (g_X55_has x1 x3 D) (fun r30 D30 => if r30 = 0 then (ga_let (aw_w32 (x4 + 1)) (fun v66 => g_X55_isClosed_l15 n x1 1 x3 v66 D30 k72)) else (ga_ck (0 ≤ aw_w32 ((aw_w32 (10 * x3)) + x4) ∧ aw_w32 ((aw_w32 (10 * x3)) + x4) < 100) (if D30 5269 (aw_w32 ((aw_w32 (10 * x3)) + x4)) = 0 then (ga_let (aw_w32 (x4 + 1)) (fun v66 => g_X55_isClosed_l15 n x1 1 x3 v66 D30 k72)) else (ga_bind (g_X55_has x1 x4 D30) (fun r54 D54 => if r54 = 0 then (ga_let (aw_w32 (x4 + 1)) (fun v66 => g_X55_isClosed_l15 n x1 0 x3 v66 D54 k72)) else (ga_let (aw_w32 (x4 + 1)) (fun v66 => g_X55_isClosed_l15 n x1 1 x3 v66 D54 k72))))))))))
    refine pr_ite (fun c21 => ?_) (fun c21 => ?_)
    exact hk72 _ _ _ _ 
    refine pr_ite (fun c25 => ?_) (fun c25 => ?_)
    refine pr_let (fun v66 => ?_)
    exact ih _ _ _ _ _ 
    refine pr_bind (g_X55_has_pr) (fun r30 D30 => ?_)
    refine pr_ite (fun c33 => ?_) (fun c33 => ?_)
    refine pr_let (fun v66 => ?_)
    exact ih _ _ _ _ _ 
    refine pr_ck (fun ha47 => ?_)
    refine pr_ite (fun c48 => ?_) (fun c48 => ?_)
    refine pr_let (fun v66 => ?_)
    exact ih _ _ _ _ _ 
    refine pr_bind (g_X55_has_pr) (fun r54 D54 => ?_)
    refine pr_ite (fun c57 => ?_) (fun c57 => ?_)
    refine pr_let (fun v66 => ?_)
    exact ih _ _ _ _ _ 
    refine pr_let (fun v66 => ?_)
    exact ih _ _ _ _ _ 
theorem g_X55_isClosed_l4_pr  {k78 : Int → ga_D → ga_S} (hk78 : ∀ (x2 : Int) (D : ga_D), ga_pr D (k78 x2 D)) : ∀ (n : Nat) (x1 x2 x3 : Int) (D : ga_D), ga_pr D (g_X55_isClosed_l4 n x1 x2 x3 D k78) := by
  intro n
  induction n with
  | zero => intro x1 x2 x3 D; exact pr_none
  | succ n ih =>
    intro x1 x2 x3 D
    show ga_pr D (if D 5263 0 ≤ x3 then (k78 x2 D) else (g_X55_isClosed_l15 aw_fu x1 x2 x3 0 D (fun x1 x2 x3 D72 => ga_let (aw_w32 (x3 + 1)) (fun v72 => g_X55_isClosed_l4 n x1 x2 v72 D72 k78))))
    refine pr_ite (fun c9 => ?_) (fun c9 => ?_)
    exact hk78 _ _ 
    refine g_X55_isClosed_l15_pr (fun x1 x2 x3 D72 => ?_) _ _ _ _ _ _ 
    refine pr_let (fun v72 => ?_)
    exact ih _ _ _ _ 
theorem g_X55_isClosed_pr {x1 : Int} {D : ga_D} : ga_pr D (g_X55_isClosed x1 D) := by
  unfold g_X55_isClosed
  refine g_X55_isClosed_l4_pr (fun x2 D78 => ?_) _ _ _ _ _ 
  refine pr_ck (fun hr79 => ?_)
  exact pr_some
theorem g_X55_states_l45_pr  {k97 : Int → Int → Int → Int → ga_D → ga_S} (hk97 : ∀ (x1 x3 x4 x5 : Int) (D : ga_D), ga_pr D (k97 x1 x3 x4 x5 D)) : ∀ (n : Nat) (x1 x3 x4 x5 x6 : Int) (D : ga_D), ga_pr D (g_X55_states_l45 n x1 x3 x4 x5 x6 D k97) := by
  intro n
  induction n with
  | zero => intro x1 x3 x4 x5 x6 D; exact pr_none
  | succ n ih =>
    intro x1 x3 x4 x5 x6 D
    show ga_pr D (if D 5263 0 ≤ x6 then (k97 x1 x3 x4 x5 D) else (if x5 = 0 then (ga_let (aw_w32 (x6 + 1)) (fun v91 => g_X55_states_l45 n x1 x3 x4 0 v91 D k97)) else (ga_bind (g_X55_has x3 x6 D) (fun r62 D62 => if r62 = 0 then (ga_let (aw_w32 (x6 + 1)) (fun v91 => g_X55_states_l45 n x1 x3 x4 1 v91 D62 k97)) else (ga_ck (0 ≤ aw_w32 ((aw_w32 (10 * x6)) + x4) ∧ aw_w32 ((aw_w32 (10 * x6)) + x4) < 100) (if D62 5269 (aw_w32 ((aw_w32 (10 * x6)) + x4)) ≠ 0 then (ga_let (aw_w32 (x6 + 1)) (fun v91 => g_X55_states_l45 n x1 x3 x4 0 v91 D62 k97)) else (ga_let (aw_w32 (x6 + 1)) (fun v91 => g_X55_states_l45 n x1 x3 x4 1 v91 D62 k97))))))))
    refine pr_ite (fun c51 => ?_) (fun c51 => ?_)
    exact hk97 _ _ _ _ _ 
    refine pr_ite (fun c56 => ?_) (fun c56 => ?_)
    refine pr_let (fun v91 => ?_)
    exact ih _ _ _ _ _ _ 
    refine pr_bind (g_X55_has_pr) (fun r62 D62 => ?_)
    refine pr_ite (fun c65 => ?_) (fun c65 => ?_)
    refine pr_let (fun v91 => ?_)
    exact ih _ _ _ _ _ _ 
    refine pr_ck (fun ha80 => ?_)
    refine pr_ite (fun c81 => ?_) (fun c81 => ?_)
    refine pr_let (fun v91 => ?_)
    exact ih _ _ _ _ _ _ 
    refine pr_let (fun v91 => ?_)
    exact ih _ _ _ _ _ _ 
theorem g_X55_states_l17_pr  {k116 : Int → Int → ga_D → ga_S} (hk116 : ∀ (x1 x3 : Int) (D : ga_D), ga_pr D (k116 x1 x3 D)) : ∀ (n : Nat) (x1 x3 x4 : Int) (D : ga_D), ga_pr D (g_X55_states_l17 n x1 x3 x4 D k116) := by
  intro n
  induction n with
  | zero => intro x1 x3 x4 D; exact pr_none
  | succ n ih =>
    intro x1 x3 x4 D
    show ga_pr D (if D 5263 0 ≤ x4 then (k116 x1 x3 D) else (ga_bind (g_X55_isClosed x3 D) (fun r28 D28 => if r28 = 0 then (k116 x1 x3 D28) else (ga_bind (g_X55_has x3 x4 D28) (fun r37 D37 => g_X55_states_l45 aw_fu x1 x3 x4 r37 0 D37 (fun x1 x3 x4 x5 D97 => if x5 = 0 then (ga_let (aw_w32 (x4 + 1)) (fun v110 => g_X55_states_l17 n x1 x3 v110 D97 k116)) else (ga_let (aw_w64 (x1 + 1)) (fun v109 => ga_let (aw_w32 (x4 + 1)) (fun v110 => g_X55_states_l17 n v109 x3 v110 D97 k116)))))))))
    refine pr_ite (fun c23 => ?_) (fun c23 => ?_)
    exact hk116 _ _ _ 
    refine pr_bind (g_X55_isClosed_pr) (fun r28 D28 => ?_)
    refine pr_ite (fun c31 => ?_) (fun c31 => ?_)
    exact hk116 _ _ _ 
    refine pr_bind (g_X55_has_pr) (fun r37 D37 => ?_)
    refine g_X55_states_l45_pr (fun x1 x3 x4 x5 D97 => ?_) _ _ _ _ _ _ _ 
    refine pr_ite (fun c99 => ?_) (fun c99 => ?_)
    refine pr_let (fun v110 => ?_)
    exact ih _ _ _ _ 
    refine pr_let (fun v109 => ?_)
    refine pr_let (fun v110 => ?_)
    exact ih _ _ _ _ 
theorem g_X55_states_l4_pr  {k122 : Int → ga_D → ga_S} (hk122 : ∀ (x1 : Int) (D : ga_D), ga_pr D (k122 x1 D)) : ∀ (n : Nat) (x1 x3 : Int) (D : ga_D), ga_pr D (g_X55_states_l4 n x1 x3 D k122) := by
  intro n
  induction n with
  | zero => intro x1 x3 D; exact pr_none
  | succ n ih =>
    intro x1 x3 D
    show ga_pr D (if aw_shl 1 (D 5263 0) ≤ x3 then (k122 x1 D) else (g_X55_states_l17 aw_fu x1 x3 0 D (fun x1 x3 D116 => ga_let (aw_w32 (x3 + 1)) (fun v116 => g_X55_states_l4 n x1 v116 D116 k122))))
    refine pr_ite (fun c11 => ?_) (fun c11 => ?_)
    exact hk122 _ _ 
    refine g_X55_states_l17_pr (fun x1 x3 D116 => ?_) _ _ _ _ _ 
    refine pr_let (fun v116 => ?_)
    exact ih _ _ _ 
theorem g_X55_states_pr {D : ga_D} : ga_pr D (g_X55_states D) := by
  unfold g_X55_states
  refine g_X55_states_l4_pr (fun x1 D122 => ?_) _ _ _ _ 
  exact pr_some
theorem g_X55_bringsOf_j58_pr  {k8 : Int → Int → Int → Int → Int → ga_D → ga_S} (hk8 : ∀ (x1 x2 x3 x4 x5 : Int) (D : ga_D), ga_pr D (k8 x1 x2 x3 x4 x5 D)) (x1 x2 x4 x5 x6 s0 : Int) (D : ga_D) : ga_pr D (g_X55_bringsOf_j58 x1 x2 x4 x5 x6 s0 D k8) := by
  unfold g_X55_bringsOf_j58
  refine pr_ite (fun c61 => ?_) (fun c61 => ?_)
  refine pr_let (fun v86 => ?_)
  exact hk8 _ _ _ _ _ _ 
  refine pr_ite (fun c66 => ?_) (fun c66 => ?_)
  refine pr_let (fun v86 => ?_)
  exact hk8 _ _ _ _ _ _ 
  refine pr_ck (fun ha75 => ?_)
  refine pr_ite (fun c76 => ?_) (fun c76 => ?_)
  refine pr_let (fun v86 => ?_)
  exact hk8 _ _ _ _ _ _ 
  refine pr_let (fun v86 => ?_)
  exact hk8 _ _ _ _ _ _ 
theorem g_X55_bringsOf_j53_pr  {k8 : Int → Int → Int → Int → Int → ga_D → ga_S} (hk8 : ∀ (x1 x2 x3 x4 x5 : Int) (D : ga_D), ga_pr D (k8 x1 x2 x3 x4 x5 D)) (x1 x2 x4 x5 x6 : Int) (D : ga_D) : ga_pr D (g_X55_bringsOf_j53 x1 x2 x4 x5 x6 D k8) := by
  unfold g_X55_bringsOf_j53
  refine g_X55_bringsOf_j58_pr (fun x1 x2 x3 x4 x5 D8 => ?_) _ _ _ _ _ _ _ 
  exact hk8 _ _ _ _ _ _ 
theorem g_X55_bringsOf_j42_pr  {k8 : Int → Int → Int → Int → Int → ga_D → ga_S} (hk8 : ∀ (x1 x2 x3 x4 x5 : Int) (D : ga_D), ga_pr D (k8 x1 x2 x3 x4 x5 D)) (x1 x2 x3 x4 x5 s0 : Int) (D : ga_D) : ga_pr D (g_X55_bringsOf_j42 x1 x2 x3 x4 x5 s0 D k8) := by
  unfold g_X55_bringsOf_j42
  refine pr_ite (fun c45 => ?_) (fun c45 => ?_)
  refine g_X55_bringsOf_j53_pr (fun x1 x2 x3 x4 x5 D8 => ?_) _ _ _ _ _ _ 
  exact hk8 _ _ _ _ _ _ 
  refine pr_ite (fun c50 => ?_) (fun c50 => ?_)
  refine g_X55_bringsOf_j58_pr (fun x1 x2 x3 x4 x5 D8 => ?_) _ _ _ _ _ _ _ 
  exact hk8 _ _ _ _ _ _ 
  refine g_X55_bringsOf_j53_pr (fun x1 x2 x3 x4 x5 D8 => ?_) _ _ _ _ _ _ 
  exact hk8 _ _ _ _ _ _ 
theorem g_X55_bringsOf_j41_pr  {k8 : Int → Int → Int → Int → Int → ga_D → ga_S} (hk8 : ∀ (x1 x2 x3 x4 x5 : Int) (D : ga_D), ga_pr D (k8 x1 x2 x3 x4 x5 D)) (x1 x2 x3 x4 x5 : Int) (D : ga_D) : ga_pr D (g_X55_bringsOf_j41 x1 x2 x3 x4 x5 D k8) := by
  unfold g_X55_bringsOf_j41
  refine g_X55_bringsOf_j42_pr (fun x1 x2 x3 x4 x5 D8 => ?_) _ _ _ _ _ _ _ 
  exact hk8 _ _ _ _ _ _ 
theorem g_X55_bringsOf_l8_pr  {k92 : Int → Int → Int → ga_D → ga_S} (hk92 : ∀ (x1 x3 x4 : Int) (D : ga_D), ga_pr D (k92 x1 x3 x4 D)) : ∀ (n : Nat) (x1 x2 x3 x4 x5 : Int) (D : ga_D), ga_pr D (g_X55_bringsOf_l8 n x1 x2 x3 x4 x5 D k92) := by
  intro n
  induction n with
  | zero => intro x1 x2 x3 x4 x5 D; exact pr_none
  | succ n ih =>
    intro x1 x2 x3 x4 x5 D
    show ga_pr D (if D 5263 0 ≤ x5 then (k92 x1 x3 x4 D) else (ga_bind (g_X55_has x2 x5 D) (fun r20 D20 => if r20 = 0 then (g_X55_bringsOf_j41 x1 x2 x3 x4 x5 D20 (fun x1 x2 x3 x4 x5 D8 => g_X55_bringsOf_l8 n x1 x2 x3 x4 x5 D8 k92)) else (ga_ck (0 ≤ x5 ∧ x5 < 10) (if D20 5264 x5 ≠ x1 then (g_X55_bringsOf_j41 x1 x2 x3 x4 x5 D20 (fun x1 x2 x3 x4 x5 D8 => g_X55_bringsOf_l8 n x1 x2 x3 x4 x5 D8 k92)) else (g_X55_bringsOf_j42 x1 x2 x3 x4 x5 1 D20 (fun x1 x2 x3 x4 x5 D8 => g_X55_bringsOf_l8 n x1 x2 x3 x4 x5 D8 k92)))))))
    refine pr_ite (fun c14 => ?_) (fun c14 => ?_)
    exact hk92 _ _ _ _ 
    refine pr_bind (g_X55_has_pr) (fun r20 D20 => ?_)
    refine pr_ite (fun c23 => ?_) (fun c23 => ?_)
    refine g_X55_bringsOf_j41_pr (fun x1 x2 x3 x4 x5 D8 => ?_) _ _ _ _ _ _ 
    exact ih _ _ _ _ _ _ 
    refine pr_ck (fun ha32 => ?_)
    refine pr_ite (fun c34 => ?_) (fun c34 => ?_)
    refine g_X55_bringsOf_j41_pr (fun x1 x2 x3 x4 x5 D8 => ?_) _ _ _ _ _ _ 
    exact ih _ _ _ _ _ _ 
    refine g_X55_bringsOf_j42_pr (fun x1 x2 x3 x4 x5 D8 => ?_) _ _ _ _ _ _ _ 
    exact ih _ _ _ _ _ _ 
theorem g_X55_bringsOf_pr {x1 x2 : Int} {D : ga_D} : ga_pr D (g_X55_bringsOf x1 x2 D) := by
  unfold g_X55_bringsOf
  refine g_X55_bringsOf_l8_pr (fun x1 x3 x4 D92 => ?_) _ _ _ _ _ _ _ 
  refine pr_ite (fun c93 => ?_) (fun c93 => ?_)
  exact pr_some
  refine pr_ite (fun c98 => ?_) (fun c98 => ?_)
  refine pr_ite (fun c108 => ?_) (fun c108 => ?_)
  refine pr_ck (fun ha142 => ?_)
  refine pr_ck (fun ha149 => ?_)
  refine pr_ck (fun hz151 => ?_)
  refine pr_ck (fun ha157 => ?_)
  exact pr_some
  refine pr_ite (fun c116 => ?_) (fun c116 => ?_)
  exact pr_some
  refine pr_ck (fun ha127 => ?_)
  exact pr_some
  exact pr_some
theorem g_X55_restOf_l6_pr  {k65 : Int → ga_D → ga_S} (hk65 : ∀ (x2 : Int) (D : ga_D), ga_pr D (k65 x2 D)) : ∀ (n : Nat) (x1 x2 x3 : Int) (D : ga_D), ga_pr D (g_X55_restOf_l6 n x1 x2 x3 D k65) := by
  intro n
  induction n with
  | zero => intro x1 x2 x3 D; exact pr_none
  | succ n ih =>
    intro x1 x2 x3 D
    show ga_pr D (if D 5263 0 ≤ x3 then (k65 x2 D) else (ga_bind (g_X55_has x1 x3 D) (fun r16 D16 => if r16 = 0 then (ga_let (aw_w32 (x3 + 1)) (fun v59 => g_X55_restOf_l6 n x1 x2 v59 D16 k65)) else (ga_ck (0 ≤ x3 ∧ x3 < 10) (if D16 5264 x3 < 0 then (ga_let (aw_w32 (x3 + 1)) (fun v59 => g_X55_restOf_l6 n x1 x2 v59 D16 k65)) else (ga_ck (0 ≤ x3 ∧ x3 < 10) (ga_bind (g_X55_has x2 (D16 5264 x3) D16) (fun r38 D38 => if r38 = 0 then (ga_let (aw_w32 (x3 + 1)) (fun v59 => g_X55_restOf_l6 n x1 x2 v59 D38 k65)) else (ga_ck (0 ≤ x3 ∧ x3 < 10) (ga_let (aw_w32 (x2 - (aw_shl 1 (D38 5264 x3)))) (fun v58 => ga_let (aw_w32 (x3 + 1)) (fun v59 => g_X55_restOf_l6 n x1 v58 v59 D38 k65))))))))))))
    refine pr_ite (fun c11 => ?_) (fun c11 => ?_)
    exact hk65 _ _ 
    refine pr_bind (g_X55_has_pr) (fun r16 D16 => ?_)
    refine pr_ite (fun c19 => ?_) (fun c19 => ?_)
    refine pr_let (fun v59 => ?_)
    exact ih _ _ _ _ 
    refine pr_ck (fun ha27 => ?_)
    refine pr_ite (fun c28 => ?_) (fun c28 => ?_)
    refine pr_let (fun v59 => ?_)
    exact ih _ _ _ _ 
    refine pr_ck (fun ha37 => ?_)
    refine pr_bind (g_X55_has_pr) (fun r38 D38 => ?_)
    refine pr_ite (fun c41 => ?_) (fun c41 => ?_)
    refine pr_let (fun v59 => ?_)
    exact ih _ _ _ _ 
    refine pr_ck (fun ha51 => ?_)
    refine pr_let (fun v58 => ?_)
    refine pr_let (fun v59 => ?_)
    exact ih _ _ _ _ 
theorem g_X55_restOf_pr {x1 : Int} {D : ga_D} : ga_pr D (g_X55_restOf x1 D) := by
  unfold g_X55_restOf
  refine g_X55_restOf_l6_pr (fun x2 D65 => ?_) _ _ _ _ _ 
  exact pr_some
theorem g_X55_valueOf_l5_pr  {k28 : Int → Int → ga_D → ga_S} (hk28 : ∀ (x1 x2 : Int) (D : ga_D), ga_pr D (k28 x1 x2 D)) : ∀ (n : Nat) (x1 x2 x4 : Int) (D : ga_D), ga_pr D (g_X55_valueOf_l5 n x1 x2 x4 D k28) := by
  intro n
  induction n with
  | zero => intro x1 x2 x4 D; exact pr_none
  | succ n ih =>
    intro x1 x2 x4 D
    show ga_pr D (if 12 ≤ x4 then (k28 x1 x2 D) else (ga_bind (g_X55_bringsOf x4 x1 D) (fun r17 D17 => ga_let (aw_w64 (x2 + r17)) (fun v21 => ga_let (aw_w32 (x4 + 1)) (fun v22 => g_X55_valueOf_l5 n x1 v21 v22 D17 k28)))))
    refine pr_ite (fun c9 => ?_) (fun c9 => ?_)
    exact hk28 _ _ _ 
    refine pr_bind (g_X55_bringsOf_pr) (fun r17 D17 => ?_)
    refine pr_let (fun v21 => ?_)
    refine pr_let (fun v22 => ?_)
    exact ih _ _ _ _ 
theorem g_X55_valueOf_l38_pr  {k83 : Int → ga_D → ga_S} (hk83 : ∀ (x2 : Int) (D : ga_D), ga_pr D (k83 x2 D)) : ∀ (n : Nat) (x2 x4 x5 : Int) (D : ga_D), ga_pr D (g_X55_valueOf_l38 n x2 x4 x5 D k83) := by
  intro n
  induction n with
  | zero => intro x2 x4 x5 D; exact pr_none
  | succ n ih =>
    intro x2 x4 x5 D
    show ga_pr D (if D 5263 14 ≤ x5 then (k83 x2 D) else (ga_ck (0 ≤ x5 ∧ x5 < 16) (if D 5275 x5 ≠ x4 then (ga_let (aw_w64 (x2 + 0)) (fun v76 => ga_let (aw_w32 (x5 + 1)) (fun v77 => g_X55_valueOf_l38 n v76 x4 v77 D k83))) else (ga_ck (0 ≤ x5 ∧ x5 < 16) (ga_let (aw_w64 (x2 + (aw_w64 (27720 * (D 5276 x5))))) (fun v76 => ga_let (aw_w32 (x5 + 1)) (fun v77 => g_X55_valueOf_l38 n v76 x4 v77 D k83)))))))
    refine pr_ite (fun c44 => ?_) (fun c44 => ?_)
    exact hk83 _ _ 
    refine pr_ck (fun ha54 => ?_)
    refine pr_ite (fun c57 => ?_) (fun c57 => ?_)
    refine pr_let (fun v76 => ?_)
    refine pr_let (fun v77 => ?_)
    exact ih _ _ _ _ 
    refine pr_ck (fun ha69 => ?_)
    refine pr_let (fun v76 => ?_)
    refine pr_let (fun v77 => ?_)
    exact ih _ _ _ _ 
theorem g_X55_valueOf_pr {x1 : Int} {D : ga_D} : ga_pr D (g_X55_valueOf x1 D) := by
  unfold g_X55_valueOf
  refine g_X55_valueOf_l5_pr (fun x1 x2 D28 => ?_) _ _ _ _ _ 
  refine pr_bind (g_X55_restOf_pr) (fun r30 D30 => ?_)
  refine g_X55_valueOf_l38_pr (fun x2 D83 => ?_) _ _ _ _ _ 
  exact pr_some
theorem g_X55_reckonValues_l19_pr  {k72 : Int → ga_D → ga_S} (hk72 : ∀ (x1 : Int) (D : ga_D), ga_pr D (k72 x1 D)) : ∀ (n : Nat) (x1 x2 : Int) (D : ga_D), ga_pr D (g_X55_reckonValues_l19 n x1 x2 D k72) := by
  intro n
  induction n with
  | zero => intro x1 x2 D; exact pr_none
  | succ n ih =>
    intro x1 x2 D
    show ga_pr D (if D 5263 0 ≤ x2 then (k72 x1 D) else (ga_ck (0 ≤ aw_w32 ((aw_w32 (10 * x1)) + x2) ∧ aw_w32 ((aw_w32 (10 * x1)) + x2) < 100) (if D 5269 (aw_w32 ((aw_w32 (10 * x1)) + x2)) = 0 then (ga_ck (0 ≤ x1 ∧ x1 < 10) (ga_ck (0 ≤ x1 ∧ x1 < 10) (ga_let (ga_set D 5280 x1 (D 5280 x1)) (fun D65 => ga_let (aw_w32 (x2 + 1)) (fun v66 => g_X55_reckonValues_l19 n x1 v66 D65 k72))))) else (ga_ck (0 ≤ x1 ∧ x1 < 10) (ga_ck (0 ≤ x1 ∧ x1 < 10) (ga_let (ga_set D 5280 x1 (aw_or (D 5280 x1) (aw_shl 1 x2))) (fun D65 => ga_let (aw_w32 (x2 + 1)) (fun v66 => g_X55_reckonValues_l19 n x1 v66 D65 k72))))))))
    refine pr_ite (fun c24 => ?_) (fun c24 => ?_)
    exact hk72 _ _ 
    refine pr_ck (fun ha42 => ?_)
    refine pr_ite (fun c43 => ?_) (fun c43 => ?_)
    refine pr_ck (fun ha64 => ?_)
    refine pr_ck (fun ha65 => ?_)
    refine pr_upd (ga_Pn K_5280 rfl) (fun D65 => ?_)
    refine pr_let (fun v66 => ?_)
    exact ih _ _ _ 
    refine pr_ck (fun ha51 => ?_)
    refine pr_ck (fun ha65 => ?_)
    refine pr_upd (ga_Pn K_5280 rfl) (fun D65 => ?_)
    refine pr_let (fun v66 => ?_)
    exact ih _ _ _ 
theorem g_X55_reckonValues_l2_pr  {k78 : ga_D → ga_S} (hk78 : ∀ (D : ga_D), ga_pr D (k78 D)) : ∀ (n : Nat) (x1 : Int) (D : ga_D), ga_pr D (g_X55_reckonValues_l2 n x1 D k78) := by
  intro n
  induction n with
  | zero => intro x1 D; exact pr_none
  | succ n ih =>
    intro x1 D
    show ga_pr D (if D 5263 0 ≤ x1 then (k78 D) else (ga_ck (0 ≤ x1 ∧ x1 < 10) (ga_let (ga_set D 5280 x1 0) (fun D16 => g_X55_reckonValues_l19 aw_fu x1 0 D16 (fun x1 D72 => ga_let (aw_w32 (x1 + 1)) (fun v72 => g_X55_reckonValues_l2 n v72 D72 k78))))))
    refine pr_ite (fun c7 => ?_) (fun c7 => ?_)
    exact hk78 _ 
    refine pr_ck (fun ha16 => ?_)
    refine pr_upd (ga_Pn K_5280 rfl) (fun D16 => ?_)
    refine g_X55_reckonValues_l19_pr (fun x1 D72 => ?_) _ _ _ _ 
    refine pr_let (fun v72 => ?_)
    exact ih _ _ 
theorem g_X55_reckonValues_l80_pr  {k107 : ga_D → ga_S} (hk107 : ∀ (D : ga_D), ga_pr D (k107 D)) : ∀ (n : Nat) (x1 : Int) (D : ga_D), ga_pr D (g_X55_reckonValues_l80 n x1 D k107) := by
  intro n
  induction n with
  | zero => intro x1 D; exact pr_none
  | succ n ih =>
    intro x1 D
    show ga_pr D (if aw_shl 1 (D 5263 0) ≤ x1 then (k107 D) else (ga_bind (g_X55_valueOf x1 D) (fun r97 D97 => ga_ck (0 ≤ x1 ∧ x1 < 1024) (ga_let (ga_set D97 5282 x1 r97) (fun D100 => ga_let (aw_w32 (x1 + 1)) (fun v101 => g_X55_reckonValues_l80 n v101 D100 k107))))))
    refine pr_ite (fun c87 => ?_) (fun c87 => ?_)
    exact hk107 _ 
    refine pr_bind (g_X55_valueOf_pr) (fun r97 D97 => ?_)
    refine pr_ck (fun ha100 => ?_)
    refine pr_upd (ga_Pn K_5282 rfl) (fun D100 => ?_)
    refine pr_let (fun v101 => ?_)
    exact ih _ _ 
theorem g_X55_reckonValues_pr {D : ga_D} : ga_pr D (g_X55_reckonValues D) := by
  unfold g_X55_reckonValues
  refine g_X55_reckonValues_l2_pr (fun D78 => ?_) _ _ _ 
  refine g_X55_reckonValues_l80_pr (fun D107 => ?_) _ _ _ 
  exact pr_some
theorem g_X55_canDo_pr {x1 x2 : Int} {D : ga_D} : ga_pr D (g_X55_canDo x1 x2 D) := by
  unfold g_X55_canDo
  refine pr_bind (g_X55_has_pr) (fun r2 D2 => ?_)
  refine pr_ite (fun c5 => ?_) (fun c5 => ?_)
  exact pr_some
  refine pr_ck (fun ha13 => ?_)
  refine pr_ck (fun ha21 => ?_)
  refine pr_ite (fun c22 => ?_) (fun c22 => ?_)
  exact pr_some
  exact pr_some
theorem g_X55_stepCost_j52_pr  (x1 x2 s0 s1 : Int) (D : ga_D) : ga_pr D (g_X55_stepCost_j52 x1 x2 s0 s1 D) := by
  unfold g_X55_stepCost_j52
  refine pr_let (fun v53 => ?_)
  refine pr_ck (fun ha60 => ?_)
  refine pr_ck (fun ha66 => ?_)
  refine pr_ite (fun c67 => ?_) (fun c67 => ?_)
  refine pr_ck (fun ha85 => ?_)
  refine pr_ck (fun ha92 => ?_)
  refine pr_ck (fun ha94 => ?_)
  refine pr_let (fun v96 => ?_)
  exact pr_some
  refine pr_let (fun v96 => ?_)
  exact pr_some
theorem g_X55_stepCost_pr {x1 x2 : Int} {D : ga_D} : ga_pr D (g_X55_stepCost x1 x2 D) := by
  unfold g_X55_stepCost
  refine pr_ck (fun ha5 => ?_)
  refine pr_let (fun v6 => ?_)
  refine pr_ite (fun c8 => ?_) (fun c8 => ?_)
  exact pr_some
  refine pr_ck (fun ha17 => ?_)
  refine pr_ck (fun ha23 => ?_)
  refine pr_ite (fun c24 => ?_) (fun c24 => ?_)
  refine pr_ck (fun ha42 => ?_)
  refine pr_ck (fun ha49 => ?_)
  refine pr_ck (fun ha51 => ?_)
  refine g_X55_stepCost_j52_pr _ _ _ _ _ 
  refine g_X55_stepCost_j52_pr _ _ _ _ _ 
theorem g_X55_spread_l3_pr  {k85 : ga_D → ga_S} (hk85 : ∀ (D : ga_D), ga_pr D (k85 D)) : ∀ (n : Nat) (x1 x2 x3 x5 : Int) (D : ga_D), ga_pr D (g_X55_spread_l3 n x1 x2 x3 x5 D k85) := by
  intro n
  induction n with
  | zero => intro x1 x2 x3 x5 D; exact pr_none
  | succ n ih =>
    intro x1 x2 x3 x5 D
    show ga_pr D (if D 5263 0 ≤ x5 then (k85 D) else (ga_bind (g_X55_canDo x1 x5 D) (fun r16 D16 => if r16 = 0 then (ga_let (aw_w32 (x5 + 1)) (fun v79 => g_X55_spread_l3 n x1 x2 x3 v79 D16 k85)) else (ga_let (aw_w32 ((aw_w32 (10 * (aw_or x1 (aw_shl 1 x5)))) + x5)) (fun v34 => ga_bind (g_X55_stepCost x2 x5 D16) (fun r41 D41 => ga_let (aw_w64 (x3 + r41)) (fun v45 => ga_ck (0 ≤ v34 ∧ v34 < 10240) (if D41 5281 v34 ≤ v45 then (ga_ck (0 ≤ v34 ∧ v34 < 10240) (ga_ck (0 ≤ v34 ∧ v34 < 10240) (ga_let (ga_set D41 5281 v34 (D41 5281 v34)) (fun D78 => ga_let (aw_w32 (x5 + 1)) (fun v79 => g_X55_spread_l3 n x1 x2 x3 v79 D78 k85))))) else (ga_ck (0 ≤ v34 ∧ v34 < 10240) (ga_let (ga_set D41 5281 v34 v45) (fun D78 => ga_let (aw_w32 (x5 + 1)) (fun v79 => g_X55_spread_l3 n x1 x2 x3 v79 D78 k85))))))))))))
    refine pr_ite (fun c9 => ?_) (fun c9 => ?_)
    exact hk85 _ 
    refine pr_bind (g_X55_canDo_pr) (fun r16 D16 => ?_)
    refine pr_ite (fun c19 => ?_) (fun c19 => ?_)
    refine pr_let (fun v79 => ?_)
    exact ih _ _ _ _ _ 
    refine pr_let (fun v34 => ?_)
    refine pr_bind (g_X55_stepCost_pr) (fun r41 D41 => ?_)
    refine pr_let (fun v45 => ?_)
    refine pr_ck (fun ha61 => ?_)
    refine pr_ite (fun c63 => ?_) (fun c63 => ?_)
    refine pr_ck (fun ha77 => ?_)
    refine pr_ck (fun ha78 => ?_)
    refine pr_upd (ga_Pn K_5281 rfl) (fun D78 => ?_)
    refine pr_let (fun v79 => ?_)
    exact ih _ _ _ _ _ 
    refine pr_ck (fun ha78 => ?_)
    refine pr_upd (ga_Pn K_5281 rfl) (fun D78 => ?_)
    refine pr_let (fun v79 => ?_)
    exact ih _ _ _ _ _ 
theorem g_X55_spread_pr {x1 x2 x3 : Int} {D : ga_D} : ga_pr D (g_X55_spread x1 x2 x3 D) := by
  unfold g_X55_spread
  refine g_X55_spread_l3_pr (fun D85 => ?_) _ _ _ _ _ _ 
  exact pr_some
theorem g_X55_bestFrom_l13_pr  {k41 : Int → Int → Int → Int → ga_D → ga_S} (hk41 : ∀ (x1 x2 x3 x5 : Int) (D : ga_D), ga_pr D (k41 x1 x2 x3 x5 D)) : ∀ (n : Nat) (x1 x2 x3 x5 x7 : Int) (D : ga_D), ga_pr D (g_X55_bestFrom_l13 n x1 x2 x3 x5 x7 D k41) := by
  intro n
  induction n with
  | zero => intro x1 x2 x3 x5 x7 D; exact pr_none
  | succ n ih =>
    intro x1 x2 x3 x5 x7 D
    show ga_pr D (if aw_shl 10 (D 5263 0) ≤ x7 then (k41 x1 x2 x3 x5 D) else (ga_ck (0 ≤ x7 ∧ x7 < 10240) (ga_let (ga_set D 5281 x7 1000000000000000) (fun D34 => ga_let (aw_w32 (x7 + 1)) (fun v35 => g_X55_bestFrom_l13 n x1 x2 x3 x5 v35 D34 k41)))))
    refine pr_ite (fun c22 => ?_) (fun c22 => ?_)
    exact hk41 _ _ _ _ _ 
    refine pr_ck (fun ha34 => ?_)
    refine pr_upd (ga_Pn K_5281 rfl) (fun D34 => ?_)
    refine pr_let (fun v35 => ?_)
    exact ih _ _ _ _ _ _ 
theorem g_X55_bestFrom_l44_pr  {k95 : Int → Int → ga_D → ga_S} (hk95 : ∀ (x1 x5 : Int) (D : ga_D), ga_pr D (k95 x1 x5 D)) : ∀ (n : Nat) (x1 x2 x3 x5 x7 : Int) (D : ga_D), ga_pr D (g_X55_bestFrom_l44 n x1 x2 x3 x5 x7 D k95) := by
  intro n
  induction n with
  | zero => intro x1 x2 x3 x5 x7 D; exact pr_none
  | succ n ih =>
    intro x1 x2 x3 x5 x7 D
    show ga_pr D (if D 5263 0 ≤ x7 then (k95 x1 x5 D) else (ga_bind (g_X55_canDo x1 x7 D) (fun r57 D57 => if r57 = 0 then (ga_let (aw_w32 (x7 + 1)) (fun v89 => g_X55_bestFrom_l44 n x1 x2 x3 x5 v89 D57 k95)) else (ga_bind (g_X55_stepCost x2 x7 D57) (fun r84 D84 => ga_ck (0 ≤ aw_w32 ((aw_w32 (10 * (aw_or x1 (aw_shl 1 x7)))) + x7) ∧ aw_w32 ((aw_w32 (10 * (aw_or x1 (aw_shl 1 x7)))) + x7) < 10240) (ga_let (ga_set D84 5281 (aw_w32 ((aw_w32 (10 * (aw_or x1 (aw_shl 1 x7)))) + x7)) (aw_w64 (x3 + r84))) (fun D88 => ga_let (aw_w32 (x7 + 1)) (fun v89 => g_X55_bestFrom_l44 n x1 x2 x3 x5 v89 D88 k95))))))))
    refine pr_ite (fun c50 => ?_) (fun c50 => ?_)
    exact hk95 _ _ _ 
    refine pr_bind (g_X55_canDo_pr) (fun r57 D57 => ?_)
    refine pr_ite (fun c60 => ?_) (fun c60 => ?_)
    refine pr_let (fun v89 => ?_)
    exact ih _ _ _ _ _ _ 
    refine pr_bind (g_X55_stepCost_pr) (fun r84 D84 => ?_)
    refine pr_ck (fun ha88 => ?_)
    refine pr_upd (ga_Pn K_5281 rfl) (fun D88 => ?_)
    refine pr_let (fun v89 => ?_)
    exact ih _ _ _ _ _ _ 
theorem g_X55_bestFrom_j178_pr  {k114 : Int → Int → Int → ga_D → ga_S} (hk114 : ∀ (x5 x7 x8 : Int) (D : ga_D), ga_pr D (k114 x5 x7 x8 D)) (x7 x8 x9 s0 : Int) (D : ga_D) : ga_pr D (g_X55_bestFrom_j178 x7 x8 x9 s0 D k114) := by
  unfold g_X55_bestFrom_j178
  refine pr_bind (g_X55_spread_pr) (fun r187 D187 => ?_)
  refine pr_let (fun v190 => ?_)
  exact hk114 _ _ _ _ 
theorem g_X55_bestFrom_l114_pr  {k196 : Int → Int → ga_D → ga_S} (hk196 : ∀ (x5 x7 : Int) (D : ga_D), ga_pr D (k196 x5 x7 D)) : ∀ (n : Nat) (x5 x7 x8 : Int) (D : ga_D), ga_pr D (g_X55_bestFrom_l114 n x5 x7 x8 D k196) := by
  intro n
  induction n with
  | zero => intro x5 x7 x8 D; exact pr_none
  | succ n ih =>
    intro x5 x7 x8 D
    show ga_pr D (if D 5263 0 ≤ x8 then (k196 x5 x7 D) else (ga_ck (0 ≤ aw_w32 ((aw_w32 (10 * x7)) + x8) ∧ aw_w32 ((aw_w32 (10 * x7)) + x8) < 10240) (ga_let (D 5281 (aw_w32 ((aw_w32 (10 * x7)) + x8))) (fun v136 => if 1000000000000000 ≤ v136 then (ga_let (aw_w32 (x8 + 1)) (fun v190 => g_X55_bestFrom_l114 n x5 x7 v190 D k196)) else (ga_ck (0 ≤ x7 ∧ x7 < 1024) (if aw_w64 ((D 5282 x7) - v136) ≤ x5 then (g_X55_bestFrom_j178 x7 x8 v136 x5 D (fun x5 x7 x8 D114 => g_X55_bestFrom_l114 n x5 x7 x8 D114 k196)) else (ga_ck (0 ≤ x7 ∧ x7 < 1024) (g_X55_bestFrom_j178 x7 x8 v136 (aw_w64 ((D 5282 x7) - v136)) D (fun x5 x7 x8 D114 => g_X55_bestFrom_l114 n x5 x7 x8 D114 k196)))))))))
    refine pr_ite (fun c120 => ?_) (fun c120 => ?_)
    exact hk196 _ _ _ 
    refine pr_ck (fun ha135 => ?_)
    refine pr_let (fun v136 => ?_)
    refine pr_ite (fun c144 => ?_) (fun c144 => ?_)
    refine pr_let (fun v190 => ?_)
    exact ih _ _ _ _ 
    refine pr_ck (fun ha153 => ?_)
    refine pr_ite (fun c160 => ?_) (fun c160 => ?_)
    refine g_X55_bestFrom_j178_pr (fun x5 x7 x8 D114 => ?_) _ _ _ _ _ 
    exact ih _ _ _ _ 
    refine pr_ck (fun ha169 => ?_)
    refine g_X55_bestFrom_j178_pr (fun x5 x7 x8 D114 => ?_) _ _ _ _ _ 
    exact ih _ _ _ _ 
theorem g_X55_bestFrom_l100_pr  {k202 : Int → ga_D → ga_S} (hk202 : ∀ (x5 : Int) (D : ga_D), ga_pr D (k202 x5 D)) : ∀ (n : Nat) (x5 x7 : Int) (D : ga_D), ga_pr D (g_X55_bestFrom_l100 n x5 x7 D k202) := by
  intro n
  induction n with
  | zero => intro x5 x7 D; exact pr_none
  | succ n ih =>
    intro x5 x7 D
    show ga_pr D (if aw_shl 1 (D 5263 0) ≤ x7 then (k202 x5 D) else (g_X55_bestFrom_l114 aw_fu x5 x7 0 D (fun x5 x7 D196 => ga_let (aw_w32 (x7 + 1)) (fun v196 => g_X55_bestFrom_l100 n x5 v196 D196 k202))))
    refine pr_ite (fun c108 => ?_) (fun c108 => ?_)
    exact hk202 _ _ 
    refine g_X55_bestFrom_l114_pr (fun x5 x7 D196 => ?_) _ _ _ _ _ 
    refine pr_let (fun v196 => ?_)
    exact ih _ _ _ 
theorem g_X55_bestFrom_pr {x1 x2 x3 : Int} {D : ga_D} : ga_pr D (g_X55_bestFrom x1 x2 x3 D) := by
  unfold g_X55_bestFrom
  refine pr_ck (fun ha5 => ?_)
  refine pr_let (fun v8 => ?_)
  refine g_X55_bestFrom_l13_pr (fun x1 x2 x3 x5 D41 => ?_) _ _ _ _ _ _ _ 
  refine g_X55_bestFrom_l44_pr (fun x1 x5 D95 => ?_) _ _ _ _ _ _ _ 
  refine pr_let (fun v98 => ?_)
  refine g_X55_bestFrom_l100_pr (fun x5 D202 => ?_) _ _ _ _ 
  exact pr_some
theorem g_X55_run_l59_pr  {k106 : Int → Int → Int → Int → ga_D → ga_S} (hk106 : ∀ (x3 x4 x5 x7 : Int) (D : ga_D), ga_pr D (k106 x3 x4 x5 x7 D)) : ∀ (n : Nat) (x3 x4 x5 x7 : Int) (D : ga_D), ga_pr D (g_X55_run_l59 n x3 x4 x5 x7 D k106) := by
  intro n
  induction n with
  | zero => intro x3 x4 x5 x7 D; exact pr_none
  | succ n ih =>
    intro x3 x4 x5 x7 D
    show ga_pr D (ga_bind (g_X55_canDo x3 x7 D) (fun r63 D63 => if r63 = 0 then (ga_let (aw_w32 (x7 + 1)) (fun v100 => g_X55_run_l59 n x3 x4 x5 v100 D63 k106)) else (ga_bind (g_X55_stepCost x4 x7 D63) (fun r85 D85 => ga_bind (g_X55_bestFrom (aw_or x3 (aw_shl 1 x7)) x7 (aw_w64 (x5 + r85)) D85) (fun r89 D89 => if r89 = D89 5263 17 then (k106 x3 x4 x5 x7 D89) else (ga_let (aw_w32 (x7 + 1)) (fun v100 => g_X55_run_l59 n x3 x4 x5 v100 D89 k106)))))))
    refine pr_bind (g_X55_canDo_pr) (fun r63 D63 => ?_)
    refine pr_ite (fun c66 => ?_) (fun c66 => ?_)
    refine pr_let (fun v100 => ?_)
    exact ih _ _ _ _ _ 
    refine pr_bind (g_X55_stepCost_pr) (fun r85 D85 => ?_)
    refine pr_bind (g_X55_bestFrom_pr) (fun r89 D89 => ?_)
    refine pr_ite (fun c97 => ?_) (fun c97 => ?_)
    exact hk106 _ _ _ _ _ 
    refine pr_let (fun v100 => ?_)
    exact ih _ _ _ _ _ 
theorem g_X55_run_l39_pr  {k154 : Int → ga_D → ga_S} (hk154 : ∀ (x3 : Int) (D : ga_D), ga_pr D (k154 x3 D)) : ∀ (n : Nat) (x3 x4 x5 : Int) (D : ga_D), ga_pr D (g_X55_run_l39 n x3 x4 x5 D k154) := by
  intro n
  induction n with
  | zero => intro x3 x4 x5 D; exact pr_none
  | succ n ih =>
    intro x3 x4 x5 D
    show ga_pr D (ga_ck (0 ≤ x3 ∧ x3 < 1024) (if aw_w64 ((D 5282 x3) - x5) = D 5263 17 then (k154 x3 D) else (g_X55_run_l59 aw_fu x3 x4 x5 0 D (fun x3 x4 x5 x7 D106 => ga_bind (g_X55_stepCost x4 x7 D106) (fun r113 D113 => ga_let (aw_w64 (x5 + r113)) (fun v117 => ga_let (aw_or x3 (aw_shl 1 x7)) (fun v125 => ga_ck (0 ≤ D113 5263 16 ∧ D113 5263 16 < 10) (ga_let (ga_set D113 5277 (D113 5263 16) x7) (fun D140 => ga_let (ga_set D140 5263 16 (aw_w32 ((D140 5263 16) + 1))) (fun D148 => g_X55_run_l39 n v125 x7 v117 D148 k154))))))))))
    refine pr_ck (fun ha44 => ?_)
    refine pr_ite (fun c53 => ?_) (fun c53 => ?_)
    exact hk154 _ _ 
    refine g_X55_run_l59_pr (fun x3 x4 x5 x7 D106 => ?_) _ _ _ _ _ _ 
    refine pr_bind (g_X55_stepCost_pr) (fun r113 D113 => ?_)
    refine pr_let (fun v117 => ?_)
    refine pr_let (fun v125 => ?_)
    refine pr_ck (fun ha140 => ?_)
    refine pr_upd (ga_Pn K_5277 rfl) (fun D140 => ?_)
    refine pr_upd (ga_Pn K_5263 rfl) (fun D148 => ?_)
    exact ih _ _ _ _ 
theorem g_X55_run_l157_pr  {k184 : Int → ga_D → ga_S} (hk184 : ∀ (x3 : Int) (D : ga_D), ga_pr D (k184 x3 D)) : ∀ (n : Nat) (x3 x7 : Int) (D : ga_D), ga_pr D (g_X55_run_l157 n x3 x7 D k184) := by
  intro n
  induction n with
  | zero => intro x3 x7 D; exact pr_none
  | succ n ih =>
    intro x3 x7 D
    show ga_pr D (if 12 ≤ x7 then (k184 x3 D) else (ga_bind (g_X55_bringsOf x7 x3 D) (fun r174 D174 => ga_ck (0 ≤ x7 ∧ x7 < 12) (ga_let (ga_set D174 5278 x7 r174) (fun D177 => ga_let (aw_w32 (x7 + 1)) (fun v178 => g_X55_run_l157 n x3 v178 D177 k184))))))
    refine pr_ite (fun c161 => ?_) (fun c161 => ?_)
    exact hk184 _ _ 
    refine pr_bind (g_X55_bringsOf_pr) (fun r174 D174 => ?_)
    refine pr_ck (fun ha177 => ?_)
    refine pr_upd (ga_Pn K_5278 rfl) (fun D177 => ?_)
    refine pr_let (fun v178 => ?_)
    exact ih _ _ _ 
theorem g_X55_run_pr {x1 : Int} {D : ga_D} : ga_pr D (g_X55_run x1 D) := by
  unfold g_X55_run
  refine pr_bind (g_X55_states_pr) (fun r1 D1 => ?_)
  refine pr_ite (fun c6 => ?_) (fun c6 => ?_)
  refine pr_bind (g_X55_reckonValues_pr) (fun r12 D12 => ?_)
  refine pr_bind (g_X55_bestFrom_pr) (fun r20 D20 => ?_)
  refine pr_upd (ga_Pn K_5263 rfl) (fun D23 => ?_)
  refine pr_upd (ga_Pn K_5263 rfl) (fun D28 => ?_)
  refine g_X55_run_l39_pr (fun x3 D154 => ?_) _ _ _ _ _ 
  refine g_X55_run_l157_pr (fun x3 D184 => ?_) _ _ _ _ 
  refine pr_bind (g_X55_restOf_pr) (fun r187 D187 => ?_)
  refine pr_upd (ga_Pn K_5263 rfl) (fun D190 => ?_)
  refine pr_upd (ga_Pn K_5263 rfl) (fun D198 => ?_)
  refine pr_upd (ga_Pn K_5263 rfl) (fun D203 => ?_)
  exact pr_some
  exact pr_some
theorem g_X55_step_pr {x1 : Int} {D : ga_D} : ga_pr D (g_X55_step x1 D) := by
  unfold g_X55_step
  refine pr_ite (fun c1 => ?_) (fun c1 => ?_)
  exact pr_some
  refine pr_ite (fun c9 => ?_) (fun c9 => ?_)
  exact pr_some
  refine pr_ck (fun ha17 => ?_)
  exact pr_some
theorem g_X55_stops_l4_pr  {k33 : Int → ga_D → ga_S} {k44 : ga_D → ga_S} (hk33 : ∀ (x3 : Int) (D : ga_D), ga_pr D (k33 x3 D)) (hk44 : ∀ (D : ga_D), ga_pr D (k44 D)) : ∀ (n : Nat) (x1 x2 x3 : Int) (D : ga_D), ga_pr D (g_X55_stops_l4 n x1 x2 x3 D k33 k44) := by
  intro n
  induction n with
  | zero => intro x1 x2 x3 D; exact pr_none
  | succ n ih =>
    intro x1 x2 x3 D
    show ga_pr D (if 12 ≤ x3 then (k44 D) else (if D 5263 16 < 0 then (k44 D) else (ga_bind (g_X55_has (D 5263 20) x3 D) (fun r22 D22 => if r22 = 0 then (ga_let (aw_w32 (x3 + 1)) (fun v38 => g_X55_stops_l4 n x1 x2 v38 D22 k33 k44)) else (if x2 ≠ x1 then (ga_let (aw_w32 (x2 + 1)) (fun v35 => ga_let (aw_w32 (x3 + 1)) (fun v38 => g_X55_stops_l4 n x1 v35 v38 D22 k33 k44))) else (k33 x3 D22))))))
    refine pr_ite (fun c7 => ?_) (fun c7 => ?_)
    exact hk44 _ 
    refine pr_ite (fun c14 => ?_) (fun c14 => ?_)
    exact hk44 _ 
    refine pr_bind (g_X55_has_pr) (fun r22 D22 => ?_)
    refine pr_ite (fun c25 => ?_) (fun c25 => ?_)
    refine pr_let (fun v38 => ?_)
    exact ih _ _ _ _ 
    refine pr_ite (fun c30 => ?_) (fun c30 => ?_)
    refine pr_let (fun v35 => ?_)
    refine pr_let (fun v38 => ?_)
    exact ih _ _ _ _ 
    exact hk33 _ _ 
theorem g_X55_stops_pr {x1 : Int} {D : ga_D} : ga_pr D (g_X55_stops x1 D) := by
  unfold g_X55_stops
  refine g_X55_stops_l4_pr (fun x3 D33 => ?_) (fun D44 => ?_) _ _ _ _ _ 
  exact pr_some
  exact pr_some
theorem g_X55_isInRow_l4_pr  {k38 : Int → ga_D → ga_S} (hk38 : ∀ (x2 : Int) (D : ga_D), ga_pr D (k38 x2 D)) : ∀ (n : Nat) (x1 x2 x3 : Int) (D : ga_D), ga_pr D (g_X55_isInRow_l4 n x1 x2 x3 D k38) := by
  intro n
  induction n with
  | zero => intro x1 x2 x3 D; exact pr_none
  | succ n ih =>
    intro x1 x2 x3 D
    show ga_pr D (if D 5263 16 ≤ x3 then (k38 x2 D) else (if x2 ≠ 0 then (ga_let (aw_w32 (x3 + 1)) (fun v32 => g_X55_isInRow_l4 n x1 1 v32 D k38)) else (ga_ck (0 ≤ x3 ∧ x3 < 10) (if D 5277 x3 ≠ x1 then (ga_let (aw_w32 (x3 + 1)) (fun v32 => g_X55_isInRow_l4 n x1 0 v32 D k38)) else (ga_let (aw_w32 (x3 + 1)) (fun v32 => g_X55_isInRow_l4 n x1 1 v32 D k38))))))
    refine pr_ite (fun c9 => ?_) (fun c9 => ?_)
    exact hk38 _ _ 
    refine pr_ite (fun c13 => ?_) (fun c13 => ?_)
    refine pr_let (fun v32 => ?_)
    exact ih _ _ _ _ 
    refine pr_ck (fun ha21 => ?_)
    refine pr_ite (fun c23 => ?_) (fun c23 => ?_)
    refine pr_let (fun v32 => ?_)
    exact ih _ _ _ _ 
    refine pr_let (fun v32 => ?_)
    exact ih _ _ _ _ 
theorem g_X55_isInRow_pr {x1 : Int} {D : ga_D} : ga_pr D (g_X55_isInRow x1 D) := by
  unfold g_X55_isInRow
  refine g_X55_isInRow_l4_pr (fun x2 D38 => ?_) _ _ _ _ _ 
  refine pr_ck (fun hr39 => ?_)
  exact pr_some
theorem g_X55_other_l4_pr  {k32 : Int → ga_D → ga_S} {k43 : ga_D → ga_S} (hk32 : ∀ (x3 : Int) (D : ga_D), ga_pr D (k32 x3 D)) (hk43 : ∀ (D : ga_D), ga_pr D (k43 D)) : ∀ (n : Nat) (x1 x2 x3 : Int) (D : ga_D), ga_pr D (g_X55_other_l4 n x1 x2 x3 D k32 k43) := by
  intro n
  induction n with
  | zero => intro x1 x2 x3 D; exact pr_none
  | succ n ih =>
    intro x1 x2 x3 D
    show ga_pr D (if D 5263 21 ≤ x3 then (k43 D) else (if D 5263 16 < 0 then (k43 D) else (ga_bind (g_X55_isInRow x3 D) (fun r21 D21 => if r21 ≠ 0 then (ga_let (aw_w32 (x3 + 1)) (fun v37 => g_X55_other_l4 n x1 x2 v37 D21 k32 k43)) else (if x2 ≠ x1 then (ga_let (aw_w32 (x2 + 1)) (fun v34 => ga_let (aw_w32 (x3 + 1)) (fun v37 => g_X55_other_l4 n x1 v34 v37 D21 k32 k43))) else (k32 x3 D21))))))
    refine pr_ite (fun c9 => ?_) (fun c9 => ?_)
    exact hk43 _ 
    refine pr_ite (fun c16 => ?_) (fun c16 => ?_)
    exact hk43 _ 
    refine pr_bind (g_X55_isInRow_pr) (fun r21 D21 => ?_)
    refine pr_ite (fun c24 => ?_) (fun c24 => ?_)
    refine pr_let (fun v37 => ?_)
    exact ih _ _ _ _ 
    refine pr_ite (fun c29 => ?_) (fun c29 => ?_)
    refine pr_let (fun v34 => ?_)
    refine pr_let (fun v37 => ?_)
    exact ih _ _ _ _ 
    exact hk32 _ _ 
theorem g_X55_other_pr {x1 : Int} {D : ga_D} : ga_pr D (g_X55_other x1 D) := by
  unfold g_X55_other
  refine g_X55_other_l4_pr (fun x3 D32 => ?_) (fun D43 => ?_) _ _ _ _ _ 
  exact pr_some
  exact pr_some
theorem g_X55_gain_pr {x1 : Int} {D : ga_D} : ga_pr D (g_X55_gain x1 D) := by
  unfold g_X55_gain
  refine pr_ite (fun c4 => ?_) (fun c4 => ?_)
  refine pr_ite (fun c11 => ?_) (fun c11 => ?_)
  refine pr_bind (g_X55_isPart_pr) (fun r22 D22 => ?_)
  refine pr_ite (fun c25 => ?_) (fun c25 => ?_)
  exact pr_some
  refine pr_ck (fun ha33 => ?_)
  exact pr_some
  exact pr_some
  exact pr_some
theorem g_X55_proved_pr {D : ga_D} : ga_pr D (g_X55_proved D) := by
  unfold g_X55_proved
  refine pr_ck (fun hr4 => ?_)
  exact pr_some
theorem g_X55_bound_l4_pr  {k60 : Int → ga_D → ga_S} (hk60 : ∀ (x1 : Int) (D : ga_D), ga_pr D (k60 x1 D)) : ∀ (n : Nat) (x1 x3 : Int) (D : ga_D), ga_pr D (g_X55_bound_l4 n x1 x3 D k60) := by
  intro n
  induction n with
  | zero => intro x1 x3 D; exact pr_none
  | succ n ih =>
    intro x1 x3 D
    show ga_pr D (if 12 ≤ x3 then (k60 x1 D) else (ga_ck (0 ≤ x3 ∧ x3 < 12) (if D 5272 x3 ≤ 0 then (ga_let (aw_w64 (x1 + 0)) (fun v53 => ga_let (aw_w32 (x3 + 1)) (fun v54 => g_X55_bound_l4 n v53 v54 D k60))) else (ga_ck (0 ≤ x3 ∧ x3 < 12) (ga_ck (0 ≤ x3 ∧ x3 < 12) (ga_ck (D 5274 x3 ≠ 0) (ga_ck (0 ≤ x3 ∧ x3 < 12) (ga_let (aw_w64 (x1 + (aw_w64 ((aw_w64 (Int.tdiv (aw_w64 (27720 * (D 5272 x3))) (D 5274 x3))) * (D 5273 x3))))) (fun v53 => ga_let (aw_w32 (x3 + 1)) (fun v54 => g_X55_bound_l4 n v53 v54 D k60))))))))))
    refine pr_ite (fun c7 => ?_) (fun c7 => ?_)
    exact hk60 _ _ 
    refine pr_ck (fun ha16 => ?_)
    refine pr_ite (fun c19 => ?_) (fun c19 => ?_)
    refine pr_let (fun v53 => ?_)
    refine pr_let (fun v54 => ?_)
    exact ih _ _ _ 
    refine pr_ck (fun ha30 => ?_)
    refine pr_ck (fun ha37 => ?_)
    refine pr_ck (fun hz39 => ?_)
    refine pr_ck (fun ha45 => ?_)
    refine pr_let (fun v53 => ?_)
    refine pr_let (fun v54 => ?_)
    exact ih _ _ _ 
theorem g_X55_bound_l65_pr  {k104 : Int → Int → ga_D → ga_S} (hk104 : ∀ (x1 x3 : Int) (D : ga_D), ga_pr D (k104 x1 x3 D)) : ∀ (n : Nat) (x1 x3 x5 : Int) (D : ga_D), ga_pr D (g_X55_bound_l65 n x1 x3 x5 D k104) := by
  intro n
  induction n with
  | zero => intro x1 x3 x5 D; exact pr_none
  | succ n ih =>
    intro x1 x3 x5 D
    show ga_pr D (if D 5263 14 ≤ x5 then (k104 x1 x3 D) else (ga_ck (0 ≤ x5 ∧ x5 < 16) (if D 5276 x5 ≤ x3 then (ga_let (aw_w32 (x5 + 1)) (fun v98 => g_X55_bound_l65 n x1 x3 v98 D k104)) else (ga_ck (0 ≤ x5 ∧ x5 < 16) (ga_let (D 5276 x5) (fun v97 => ga_let (aw_w32 (x5 + 1)) (fun v98 => g_X55_bound_l65 n x1 v97 v98 D k104)))))))
    refine pr_ite (fun c71 => ?_) (fun c71 => ?_)
    exact hk104 _ _ _ 
    refine pr_ck (fun ha80 => ?_)
    refine pr_ite (fun c83 => ?_) (fun c83 => ?_)
    refine pr_let (fun v98 => ?_)
    exact ih _ _ _ _ 
    refine pr_ck (fun ha92 => ?_)
    refine pr_let (fun v97 => ?_)
    refine pr_let (fun v98 => ?_)
    exact ih _ _ _ _ 
theorem g_X55_bound_pr {D : ga_D} : ga_pr D (g_X55_bound D) := by
  unfold g_X55_bound
  refine g_X55_bound_l4_pr (fun x1 D60 => ?_) _ _ _ _ 
  refine g_X55_bound_l65_pr (fun x1 x3 D104 => ?_) _ _ _ _ _ 
  exact pr_some
theorem g_X55_bestWith_pr {x1 x2 : Int} {D : ga_D} : ga_pr D (g_X55_bestWith x1 x2 D) := by
  unfold g_X55_bestWith
  refine pr_upd (ga_Pn K_5263 rfl) (fun D2 => ?_)
  refine pr_upd (ga_Pn K_5263 rfl) (fun D7 => ?_)
  refine pr_bind (g_X55_reckonValues_pr) (fun r11 D11 => ?_)
  refine pr_bind (g_X55_bestFrom_pr) (fun r18 D18 => ?_)
  refine pr_upd (ga_Pn K_5263 rfl) (fun D24 => ?_)
  exact pr_some
theorem g_X55_test_pr {x1 x2 : Int} {D : ga_D} : ga_pr D (g_X55_test x1 x2 D) := by
  unfold g_X55_test
  refine pr_bind (g_X55_isPart_pr) (fun r1 D1 => ?_)
  refine pr_ite (fun c4 => ?_) (fun c4 => ?_)
  exact pr_some
  refine pr_bind (g_X55_isCents_pr) (fun r8 D8 => ?_)
  refine pr_ite (fun c11 => ?_) (fun c11 => ?_)
  refine pr_bind (g_X55_bestWith_pr) (fun r19 D19 => ?_)
  refine pr_bind (g_X55_bestWith_pr) (fun r27 D27 => ?_)
  refine pr_bind (g_X55_bestWith_pr) (fun r35 D35 => ?_)
  refine pr_ck (fun ha45 => ?_)
  refine pr_ck (fun ha55 => ?_)
  refine pr_ck (fun ha61 => ?_)
  refine pr_ck (fun ha73 => ?_)
  refine pr_let (fun v82 => ?_)
  refine pr_ck (fun ha91 => ?_)
  refine pr_ite (fun c97 => ?_) (fun c97 => ?_)
  exact pr_some
  exact pr_some
  exact pr_some
theorem g_X55_keeps_l15_pr  {k78 : Int → Int → Int → ga_D → ga_S} (hk78 : ∀ (x1 x2 x3 : Int) (D : ga_D), ga_pr D (k78 x1 x2 x3 D)) : ∀ (n : Nat) (x1 x2 x3 x4 : Int) (D : ga_D), ga_pr D (g_X55_keeps_l15 n x1 x2 x3 x4 D k78) := by
  intro n
  induction n with
  | zero => intro x1 x2 x3 x4 D; exact pr_none
  | succ n ih =>
    intro x1 x2 x3 x4 D
    show ga_pr D (if D 5263 0 ≤ x4 then (k78 x1 x2 x3 D) else (if x2 = 0 then (ga_let (aw_w32 (x4 + 1)) (fun v72 => g_X55_keeps_l15 n x1 0 x3 v72 D k78)) else (ga_ck ((ga_K x1).1 = 1000) (ga_ck (0 ≤ x3 ∧ x3 < (ga_K x1).2) (if D x1 x3 < 0 then (ga_let (aw_w32 (x4 + 1)) (fun v72 => g_X55_keeps_l15 n x1 1 x3 v72 D k78)) else (ga_ck (0 ≤ x4 ∧ x4 < (ga_K x1).2) (if D x1 x4 < 0 then (ga_let (aw_w32 (x4 + 1)) (fun v72 => g_X55_keeps_l15 n x1 1 x3 v72 D k78)) else (ga_ck (0 ≤ aw_w32 ((aw_w32 (10 * x3)) + x4) ∧ aw_w32 ((aw_w32 (10 * x3)) + x4) < 100) (if D 5284 (aw_w32 ((aw_w32 (10 * x3)) + x4)) = 0 then (ga_let (aw_w32 (x4 + 1)) (fun v72 => g_X55_keeps_l15 n x1 1 x3 v72 D k78)) else (ga_ck (0 ≤ x4 ∧ x4 < (ga_K x1).2) (ga_ck (0 ≤ x3 ∧ x3 < (ga_K x1).2) (if D x1 x3 < D x1 x4 then (ga_let (aw_w32 (x4 + 1)) (fun v72 => g_X55_keeps_l15 n x1 0 x3 v72 D k78)) else (ga_let (aw_w32 (x4 + 1)) (fun v72 => g_X55_keeps_l15 n x1 1 x3 v72 D k78))))))))))))))
    refine pr_ite (fun c21 => ?_) (fun c21 => ?_)
    exact hk78 _ _ _ _ 
    refine pr_ite (fun c25 => ?_) (fun c25 => ?_)
    refine pr_let (fun v72 => ?_)
    exact ih _ _ _ _ _ 
    refine pr_ck (fun ha30_0 => ?_)
    refine pr_ck (fun ha30 => ?_)
    refine pr_ite (fun c31 => ?_) (fun c31 => ?_)
    refine pr_let (fun v72 => ?_)
    exact ih _ _ _ _ _ 
    refine pr_ck (fun ha37 => ?_)
    refine pr_ite (fun c38 => ?_) (fun c38 => ?_)
    refine pr_let (fun v72 => ?_)
    exact ih _ _ _ _ _ 
    refine pr_ck (fun ha52 => ?_)
    refine pr_ite (fun c53 => ?_) (fun c53 => ?_)
    refine pr_let (fun v72 => ?_)
    exact ih _ _ _ _ _ 
    refine pr_ck (fun ha59 => ?_)
    refine pr_ck (fun ha62 => ?_)
    refine pr_ite (fun c63 => ?_) (fun c63 => ?_)
    refine pr_let (fun v72 => ?_)
    exact ih _ _ _ _ _ 
    refine pr_let (fun v72 => ?_)
    exact ih _ _ _ _ _ 
theorem g_X55_keeps_l4_pr  {k84 : Int → ga_D → ga_S} (hk84 : ∀ (x2 : Int) (D : ga_D), ga_pr D (k84 x2 D)) : ∀ (n : Nat) (x1 x2 x3 : Int) (D : ga_D), ga_pr D (g_X55_keeps_l4 n x1 x2 x3 D k84) := by
  intro n
  induction n with
  | zero => intro x1 x2 x3 D; exact pr_none
  | succ n ih =>
    intro x1 x2 x3 D
    show ga_pr D (if D 5263 0 ≤ x3 then (k84 x2 D) else (g_X55_keeps_l15 aw_fu x1 x2 x3 0 D (fun x1 x2 x3 D78 => ga_let (aw_w32 (x3 + 1)) (fun v78 => g_X55_keeps_l4 n x1 x2 v78 D78 k84))))
    refine pr_ite (fun c9 => ?_) (fun c9 => ?_)
    exact hk84 _ _ 
    refine g_X55_keeps_l15_pr (fun x1 x2 x3 D78 => ?_) _ _ _ _ _ _ 
    refine pr_let (fun v78 => ?_)
    exact ih _ _ _ _ 
theorem g_X55_keeps_pr {x1 : Int} {D : ga_D} : ga_pr D (g_X55_keeps x1 D) := by
  unfold g_X55_keeps
  refine g_X55_keeps_l4_pr (fun x2 D84 => ?_) _ _ _ _ _ 
  refine pr_ck (fun hr85 => ?_)
  exact pr_some
theorem g_X55_longestOf_l17_pr  {k57 : Int → Int → Int → Int → ga_D → ga_S} (hk57 : ∀ (x1 x2 x4 x5 : Int) (D : ga_D), ga_pr D (k57 x1 x2 x4 x5 D)) : ∀ (n : Nat) (x1 x2 x4 x5 x7 : Int) (D : ga_D), ga_pr D (g_X55_longestOf_l17 n x1 x2 x4 x5 x7 D k57) := by
  intro n
  induction n with
  | zero => intro x1 x2 x4 x5 x7 D; exact pr_none
  | succ n ih =>
    intro x1 x2 x4 x5 x7 D
    show ga_pr D (if D 5263 0 ≤ x7 then (k57 x1 x2 x4 x5 D) else (ga_ck ((ga_K x1).1 = 1000) (ga_ck (0 ≤ x7 ∧ x7 < (ga_K x1).2) (if D x1 x7 ≠ x4 then (ga_let (aw_w64 (x5 + 0)) (fun v49 => ga_let (aw_w32 (x7 + 1)) (fun v51 => g_X55_longestOf_l17 n x1 x2 x4 v49 v51 D k57))) else (ga_ck (0 ≤ x7 ∧ x7 < 10) (ga_let (aw_w64 (x5 + (D 5267 x7))) (fun v49 => ga_let (aw_w32 (x7 + 1)) (fun v51 => g_X55_longestOf_l17 n x1 x2 x4 v49 v51 D k57))))))))
    refine pr_ite (fun c23 => ?_) (fun c23 => ?_)
    exact hk57 _ _ _ _ _ 
    refine pr_ck (fun ha31_0 => ?_)
    refine pr_ck (fun ha31 => ?_)
    refine pr_ite (fun c34 => ?_) (fun c34 => ?_)
    refine pr_let (fun v49 => ?_)
    refine pr_let (fun v51 => ?_)
    exact ih _ _ _ _ _ _ 
    refine pr_ck (fun ha43 => ?_)
    refine pr_let (fun v49 => ?_)
    refine pr_let (fun v51 => ?_)
    exact ih _ _ _ _ _ _ 
theorem g_X55_longestOf_l5_pr  {k77 : Int → ga_D → ga_S} (hk77 : ∀ (x2 : Int) (D : ga_D), ga_pr D (k77 x2 D)) : ∀ (n : Nat) (x1 x2 x4 : Int) (D : ga_D), ga_pr D (g_X55_longestOf_l5 n x1 x2 x4 D k77) := by
  intro n
  induction n with
  | zero => intro x1 x2 x4 D; exact pr_none
  | succ n ih =>
    intro x1 x2 x4 D
    show ga_pr D (if 4 ≤ x4 then (k77 x2 D) else (g_X55_longestOf_l17 aw_fu x1 x2 x4 0 0 D (fun x1 x2 x4 x5 D57 => if x5 ≤ x2 then (ga_let (aw_w32 (x4 + 1)) (fun v71 => g_X55_longestOf_l5 n x1 x2 v71 D57 k77)) else (ga_let (aw_w32 (x4 + 1)) (fun v71 => g_X55_longestOf_l5 n x1 x5 v71 D57 k77)))))
    refine pr_ite (fun c8 => ?_) (fun c8 => ?_)
    exact hk77 _ _ 
    refine g_X55_longestOf_l17_pr (fun x1 x2 x4 x5 D57 => ?_) _ _ _ _ _ _ _ 
    refine pr_ite (fun c61 => ?_) (fun c61 => ?_)
    refine pr_let (fun v71 => ?_)
    exact ih _ _ _ _ 
    refine pr_let (fun v71 => ?_)
    exact ih _ _ _ _ 
theorem g_X55_longestOf_pr {x1 : Int} {D : ga_D} : ga_pr D (g_X55_longestOf x1 D) := by
  unfold g_X55_longestOf
  refine g_X55_longestOf_l5_pr (fun x2 D77 => ?_) _ _ _ _ _ 
  exact pr_some
theorem g_X55_stations_l23_pr  {k67 : Int → Int → ga_D → ga_S} (hk67 : ∀ (x1 x2 : Int) (D : ga_D), ga_pr D (k67 x1 x2 D)) : ∀ (n : Nat) (x1 x2 x3 : Int) (D : ga_D), ga_pr D (g_X55_stations_l23 n x1 x2 x3 D k67) := by
  intro n
  induction n with
  | zero => intro x1 x2 x3 D; exact pr_none
  | succ n ih =>
    intro x1 x2 x3 D
    show ga_pr D (if 10 ≤ x3 then (k67 x1 x2 D) else (ga_ck (0 ≤ x3 ∧ x3 < 10) (ga_let (ga_set D 5283 x3 (-1)) (fun D35 => ga_ck (0 ≤ x3 ∧ x3 < 10) (ga_let (ga_set D35 5279 x3 (-1)) (fun D42 => ga_bind (g_X55_isInRow x3 D42) (fun r45 D45 => if r45 = 0 then (ga_let (aw_w32 (x3 + 1)) (fun v61 => g_X55_stations_l23 n x1 x2 v61 D45 k67)) else (ga_ck (0 ≤ x2 ∧ x2 < 10) (ga_let (ga_set D45 5285 x2 x3) (fun D57 => ga_let (aw_w32 (x2 + 1)) (fun v58 => ga_let (aw_w32 (x3 + 1)) (fun v61 => g_X55_stations_l23 n x1 v58 v61 D57 k67))))))))))))
    refine pr_ite (fun c26 => ?_) (fun c26 => ?_)
    exact hk67 _ _ _ 
    refine pr_ck (fun ha35 => ?_)
    refine pr_upd (ga_Pn K_5283 rfl) (fun D35 => ?_)
    refine pr_ck (fun ha42 => ?_)
    refine pr_upd (ga_Pn K_5279 rfl) (fun D42 => ?_)
    refine pr_bind (g_X55_isInRow_pr) (fun r45 D45 => ?_)
    refine pr_ite (fun c48 => ?_) (fun c48 => ?_)
    refine pr_let (fun v61 => ?_)
    exact ih _ _ _ _ 
    refine pr_ck (fun ha57 => ?_)
    refine pr_upd (ga_Pn K_5285 rfl) (fun D57 => ?_)
    refine pr_let (fun v58 => ?_)
    refine pr_let (fun v61 => ?_)
    exact ih _ _ _ _ 
theorem g_X55_stations_l80_pr  {k114 : Int → Int → Int → ga_D → ga_S} (hk114 : ∀ (x1 x2 x3 : Int) (D : ga_D), ga_pr D (k114 x1 x2 x3 D)) : ∀ (n : Nat) (x1 x2 x3 x4 : Int) (D : ga_D), ga_pr D (g_X55_stations_l80 n x1 x2 x3 x4 D k114) := by
  intro n
  induction n with
  | zero => intro x1 x2 x3 x4 D; exact pr_none
  | succ n ih =>
    intro x1 x2 x3 x4 D
    show ga_pr D (if D 5263 0 ≤ x4 then (k114 x1 x2 x3 D) else (ga_bind (g_X55_leadsTo x3 x4 D) (fun r104 D104 => ga_ck (0 ≤ aw_w32 ((aw_w32 (10 * x3)) + x4) ∧ aw_w32 ((aw_w32 (10 * x3)) + x4) < 100 ∧ 0 ≤ r104 ∧ r104 < 2) (ga_let (ga_set D104 5284 (aw_w32 ((aw_w32 (10 * x3)) + x4)) r104) (fun D107 => ga_let (aw_w32 (x4 + 1)) (fun v108 => g_X55_stations_l80 n x1 x2 x3 v108 D107 k114))))))
    refine pr_ite (fun c86 => ?_) (fun c86 => ?_)
    exact hk114 _ _ _ _ 
    refine pr_bind (g_X55_leadsTo_pr) (fun r104 D104 => ?_)
    refine pr_ck (fun ha107 => ?_)
    refine pr_upd (ga_Pn K_5284 rfl) (fun D107 => ?_)
    refine pr_let (fun v108 => ?_)
    exact ih _ _ _ _ _ 
theorem g_X55_stations_l69_pr  {k120 : Int → Int → ga_D → ga_S} (hk120 : ∀ (x1 x2 : Int) (D : ga_D), ga_pr D (k120 x1 x2 D)) : ∀ (n : Nat) (x1 x2 x3 : Int) (D : ga_D), ga_pr D (g_X55_stations_l69 n x1 x2 x3 D k120) := by
  intro n
  induction n with
  | zero => intro x1 x2 x3 D; exact pr_none
  | succ n ih =>
    intro x1 x2 x3 D
    show ga_pr D (if D 5263 0 ≤ x3 then (k120 x1 x2 D) else (g_X55_stations_l80 aw_fu x1 x2 x3 0 D (fun x1 x2 x3 D114 => ga_let (aw_w32 (x3 + 1)) (fun v114 => g_X55_stations_l69 n x1 x2 v114 D114 k120))))
    refine pr_ite (fun c74 => ?_) (fun c74 => ?_)
    exact hk120 _ _ _ 
    refine g_X55_stations_l80_pr (fun x1 x2 x3 D114 => ?_) _ _ _ _ _ _ 
    refine pr_let (fun v114 => ?_)
    exact ih _ _ _ _ 
theorem g_X55_stations_l265_pr  {k292 : Int → Int → Int → Int → ga_D → ga_S} (hk292 : ∀ (x1 x2 x3 x5 : Int) (D : ga_D), ga_pr D (k292 x1 x2 x3 x5 D)) : ∀ (n : Nat) (x1 x2 x3 x5 x9 : Int) (D : ga_D), ga_pr D (g_X55_stations_l265 n x1 x2 x3 x5 x9 D k292) := by
  intro n
  induction n with
  | zero => intro x1 x2 x3 x5 x9 D; exact pr_none
  | succ n ih =>
    intro x1 x2 x3 x5 x9 D
    show ga_pr D (if 10 ≤ x9 then (k292 x1 x2 x3 x5 D) else (ga_ck (0 ≤ x9 ∧ x9 < 10) (ga_ck (0 ≤ x9 ∧ x9 < 10) (ga_let (ga_set D 5279 x9 (D 5283 x9)) (fun D285 => ga_let (aw_w32 (x9 + 1)) (fun v286 => g_X55_stations_l265 n x1 x2 x3 x5 v286 D285 k292))))))
    refine pr_ite (fun c269 => ?_) (fun c269 => ?_)
    exact hk292 _ _ _ _ _ 
    refine pr_ck (fun ha284 => ?_)
    refine pr_ck (fun ha285 => ?_)
    refine pr_upd (ga_Pn K_5279 rfl) (fun D285 => ?_)
    refine pr_let (fun v286 => ?_)
    exact ih _ _ _ _ _ _ 
theorem g_X55_stations_j251_pr  {k143 : Int → Int → Int → Int → ga_D → ga_S} (hk143 : ∀ (x1 x2 x3 x5 : Int) (D : ga_D), ga_pr D (k143 x1 x2 x3 x5 D)) (x1 x2 x3 x5 x7 : Int) (D : ga_D) : ga_pr D (g_X55_stations_j251 x1 x2 x3 x5 x7 D k143) := by
  unfold g_X55_stations_j251
  refine pr_ite (fun c256 => ?_) (fun c256 => ?_)
  refine pr_let (fun v295 => ?_)
  exact hk143 _ _ _ _ _ 
  refine g_X55_stations_l265_pr (fun x1 x2 x3 x5 D292 => ?_) _ _ _ _ _ _ _ 
  exact hk143 _ _ _ _ _ 
theorem g_X55_stations_j204_pr  {k143 : Int → Int → Int → Int → ga_D → ga_S} (hk143 : ∀ (x1 x2 x3 x5 : Int) (D : ga_D), ga_pr D (k143 x1 x2 x3 x5 D)) (x1 x2 x3 x5 x6 s0 : Int) (D : ga_D) : ga_pr D (g_X55_stations_j204 x1 x2 x3 x5 x6 s0 D k143) := by
  unfold g_X55_stations_j204
  refine pr_ck (fun ha212 => ?_)
  refine pr_ite (fun c214 => ?_) (fun c214 => ?_)
  refine pr_ite (fun c235 => ?_) (fun c235 => ?_)
  exact hk143 _ _ _ _ _ 
  refine pr_ite (fun c241 => ?_) (fun c241 => ?_)
  refine g_X55_stations_j251_pr (fun x1 x2 x3 x5 D143 => ?_) _ _ _ _ _ _ 
  exact hk143 _ _ _ _ _ 
  refine pr_ite (fun c248 => ?_) (fun c248 => ?_)
  exact hk143 _ _ _ _ _ 
  refine g_X55_stations_j251_pr (fun x1 x2 x3 x5 D143 => ?_) _ _ _ _ _ _ 
  exact hk143 _ _ _ _ _ 
  refine pr_ck (fun ha224 => ?_)
  refine pr_upd (ga_Pn K_5283 rfl) (fun D224 => ?_)
  refine pr_let (fun v225 => ?_)
  exact hk143 _ _ _ _ _ 
theorem g_X55_stations_j201_pr  {k143 : Int → Int → Int → Int → ga_D → ga_S} (hk143 : ∀ (x1 x2 x3 x5 : Int) (D : ga_D), ga_pr D (k143 x1 x2 x3 x5 D)) (x1 x2 x3 x5 x6 : Int) (D : ga_D) : ga_pr D (g_X55_stations_j201 x1 x2 x3 x5 x6 D k143) := by
  unfold g_X55_stations_j201
  refine g_X55_stations_j204_pr (fun x1 x2 x3 x5 D143 => ?_) _ _ _ _ _ _ _ 
  exact hk143 _ _ _ _ _ 
theorem g_X55_stations_l143_pr  {k301 : Int → ga_D → ga_S} (hk301 : ∀ (x3 : Int) (D : ga_D), ga_pr D (k301 x3 D)) : ∀ (n : Nat) (x1 x2 x3 x5 : Int) (D : ga_D), ga_pr D (g_X55_stations_l143 n x1 x2 x3 x5 D k301) := by
  intro n
  induction n with
  | zero => intro x1 x2 x3 x5 D; exact pr_none
  | succ n ih =>
    intro x1 x2 x3 x5 D
    show ga_pr D (if x5 < 0 then (k301 x3 D) else (ga_ck (0 ≤ x5 ∧ x5 < 10) (ga_let (D 5285 x5) (fun v155 => ga_ck (0 ≤ v155 ∧ v155 < 10) (ga_ck (0 ≤ v155 ∧ v155 < 10) (ga_let (ga_set D 5283 v155 (aw_w32 ((D 5283 v155) + 1))) (fun D167 => ga_ck (0 ≤ v155 ∧ v155 < 10) (if x1 ≤ D167 5283 v155 then (g_X55_stations_j201 x1 x2 x3 x5 v155 D167 (fun x1 x2 x3 x5 D143 => g_X55_stations_l143 n x1 x2 x3 x5 D143 k301)) else (ga_bind (g_X55_keeps 5283 D167) (fun r184 D184 => if r184 = 0 then (g_X55_stations_j201 x1 x2 x3 x5 v155 D184 (fun x1 x2 x3 x5 D143 => g_X55_stations_l143 n x1 x2 x3 x5 D143 k301)) else (ga_bind (g_X55_longestOf 5283 D184) (fun r195 D195 => g_X55_stations_j204 x1 x2 x3 x5 v155 r195 D195 (fun x1 x2 x3 x5 D143 => g_X55_stations_l143 n x1 x2 x3 x5 D143 k301)))))))))))))
    refine pr_ite (fun c145 => ?_) (fun c145 => ?_)
    exact hk301 _ _ 
    refine pr_ck (fun ha154 => ?_)
    refine pr_let (fun v155 => ?_)
    refine pr_ck (fun ha164 => ?_)
    refine pr_ck (fun ha167 => ?_)
    refine pr_upd (ga_Pn K_5283 rfl) (fun D167 => ?_)
    refine pr_ck (fun ha174 => ?_)
    refine pr_ite (fun c176 => ?_) (fun c176 => ?_)
    refine g_X55_stations_j201_pr (fun x1 x2 x3 x5 D143 => ?_) _ _ _ _ _ _ 
    exact ih _ _ _ _ _ 
    refine pr_bind (g_X55_keeps_pr) (fun r184 D184 => ?_)
    refine pr_ite (fun c187 => ?_) (fun c187 => ?_)
    refine g_X55_stations_j201_pr (fun x1 x2 x3 x5 D143 => ?_) _ _ _ _ _ _ 
    exact ih _ _ _ _ _ 
    refine pr_bind (g_X55_longestOf_pr) (fun r195 D195 => ?_)
    refine g_X55_stations_j204_pr (fun x1 x2 x3 x5 D143 => ?_) _ _ _ _ _ _ _ 
    exact ih _ _ _ _ _ 
theorem g_X55_stations_j131_pr  (x1 x2 s0 : Int) (D : ga_D) : ga_pr D (g_X55_stations_j131 x1 x2 s0 D) := by
  unfold g_X55_stations_j131
  refine pr_ite (fun c133 => ?_) (fun c133 => ?_)
  refine g_X55_stations_l143_pr (fun x3 D301 => ?_) _ _ _ _ _ _ 
  refine pr_upd (ga_Pn K_5263 rfl) (fun D303 => ?_)
  exact pr_some
  refine g_X55_stations_l143_pr (fun x3 D301 => ?_) _ _ _ _ _ _ 
  refine pr_upd (ga_Pn K_5263 rfl) (fun D303 => ?_)
  exact pr_some
theorem g_X55_stations_pr {x1 : Int} {D : ga_D} : ga_pr D (g_X55_stations x1 D) := by
  unfold g_X55_stations
  refine pr_ite (fun c4 => ?_) (fun c4 => ?_)
  exact pr_some
  refine pr_ite (fun c9 => ?_) (fun c9 => ?_)
  exact pr_some
  refine pr_ite (fun c14 => ?_) (fun c14 => ?_)
  refine g_X55_stations_l23_pr (fun x1 x2 D67 => ?_) _ _ _ _ _ 
  refine g_X55_stations_l69_pr (fun x1 x2 D120 => ?_) _ _ _ _ _ 
  refine pr_ite (fun c121 => ?_) (fun c121 => ?_)
  refine g_X55_stations_j131_pr _ _ _ _ 
  refine g_X55_stations_j131_pr _ _ _ _ 
  exact pr_some
theorem g_X55_station_pr {x1 : Int} {D : ga_D} : ga_pr D (g_X55_station x1 D) := by
  unfold g_X55_station
  refine pr_ite (fun c4 => ?_) (fun c4 => ?_)
  exact pr_some
  refine pr_ite (fun c8 => ?_) (fun c8 => ?_)
  exact pr_some
  refine pr_ite (fun c14 => ?_) (fun c14 => ?_)
  exact pr_some
  refine pr_ck (fun ha22 => ?_)
  exact pr_some
