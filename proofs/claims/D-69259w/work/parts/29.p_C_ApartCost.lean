theorem g_X28_isPart_pr {x0 : Int} {D : ga_D} : ga_pr D (g_X28_isPart x0 D) := by
  unfold g_X28_isPart
  refine pr_ite (fun c1 => ?_) (fun c1 => ?_)
  exact pr_some
  refine pr_ite (fun c7 => ?_) (fun c7 => ?_)
  exact pr_some
  exact pr_some
theorem g_X29_isWay_pr {x0 : Int} {D : ga_D} : ga_pr D (g_X29_isWay x0 D) := by
  unfold g_X29_isWay
  refine pr_ite (fun c1 => ?_) (fun c1 => ?_)
  exact pr_some
  refine pr_ite (fun c7 => ?_) (fun c7 => ?_)
  exact pr_some
  exact pr_some
theorem g_X28_isIn_pr {x0 x2 x4 : Int} {D : ga_D} : ga_pr D (g_X28_isIn x0 x2 x4 D) := by
  unfold g_X28_isIn
  refine pr_ite (fun c3 => ?_) (fun c3 => ?_)
  exact pr_some
  refine pr_ite (fun c10 => ?_) (fun c10 => ?_)
  exact pr_some
  exact pr_some
theorem g_X28_act_j21_pr  (x1 x2 x3 x4 : Int) (D : ga_D) : ga_pr D (g_X28_act_j21 x1 x2 x3 x4 D) := by
  unfold g_X28_act_j21
  refine pr_bind (g_X29_isWay_pr) (fun r22 D22 => ?_)
  refine pr_ite (fun c25 => ?_) (fun c25 => ?_)
  exact pr_some
  refine pr_bind (g_X29_isWay_pr) (fun r29 D29 => ?_)
  refine pr_ite (fun c32 => ?_) (fun c32 => ?_)
  exact pr_some
  refine pr_bind (g_X28_isIn_pr) (fun r41 D41 => ?_)
  refine pr_ite (fun c44 => ?_) (fun c44 => ?_)
  refine pr_ck (fun ha57 => ?_)
  refine pr_upd (ga_Pn (KE_4931 ha57.1 ha57.2) rfl) (fun D63 => ?_)
  refine pr_upd (ga_Pn (KE_4931 ha57.1 ha57.2) rfl) (fun D69 => ?_)
  refine pr_upd (ga_Pn (KE_4931 ha57.1 ha57.2) rfl) (fun D75 => ?_)
  refine pr_upd (ga_Pn (KE_4931 ha57.1 ha57.2) rfl) (fun D83 => ?_)
  refine pr_upd (ga_Pn K_4930 rfl) (fun D88 => ?_)
  refine pr_upd (ga_Pn K_4930 rfl) (fun D99 => ?_)
  exact pr_some
  exact pr_some
theorem g_X28_act_pr {x1 x2 x3 x4 : Int} {D : ga_D} : ga_pr D (g_X28_act x1 x2 x3 x4 D) := by
  unfold g_X28_act
  refine pr_ite (fun c6 => ?_) (fun c6 => ?_)
  exact pr_some
  refine pr_ite (fun c11 => ?_) (fun c11 => ?_)
  refine g_X28_act_j21_pr _ _ _ _ _ 
  refine pr_bind (g_X28_isPart_pr) (fun r15 D15 => ?_)
  refine pr_ite (fun c18 => ?_) (fun c18 => ?_)
  exact pr_some
  refine g_X28_act_j21_pr _ _ _ _ _ 
theorem g_X28_isAct_pr {x1 : Int} {D : ga_D} : ga_pr D (g_X28_isAct x1 D) := by
  unfold g_X28_isAct
  refine pr_ite (fun c1 => ?_) (fun c1 => ?_)
  exact pr_some
  refine pr_ite (fun c9 => ?_) (fun c9 => ?_)
  exact pr_some
  exact pr_some
theorem g_X28_before_j90_pr  {k57 : Int → Int → Int → ga_D → ga_S} (hk57 : ∀ (x2 x3 x4 : Int) (D : ga_D), ga_pr D (k57 x2 x3 x4 D)) (x2 x3 x4 : Int) (D : ga_D) : ga_pr D (g_X28_before_j90 x2 x3 x4 D k57) := by
  unfold g_X28_before_j90
  refine pr_ck (fun ha96 => ?_)
  refine pr_upd (ga_Pn (KE_4931 ha96.1 ha96.2) rfl) (fun D103 => ?_)
  refine pr_let (fun v106 => ?_)
  exact hk57 _ _ _ _ 
theorem g_X28_before_l57_pr  {k112 : ga_D → ga_S} (hk112 : ∀ (D : ga_D), ga_pr D (k112 D)) : ∀ (n : Nat) (x2 x3 x4 : Int) (D : ga_D), ga_pr D (g_X28_before_l57 n x2 x3 x4 D k112) := by
  intro n
  induction n with
  | zero => intro x2 x3 x4 D; exact pr_none
  | succ n ih =>
    intro x2 x3 x4 D
    show ga_pr D (if D 4930 1 ≤ x4 then (k112 D) else (if x4 = x2 then (g_X28_before_j90 x2 x3 x4 D (fun x2 x3 x4 D57 => g_X28_before_l57 n x2 x3 x4 D57 k112)) else (ga_ck (0 ≤ x4 ∧ x4 < 10) (if aw_and (aw_shr (D ((x4 + 4946)) 5) x2) 1 ≠ 1 then (ga_let (aw_w32 (x4 + 1)) (fun v106 => g_X28_before_l57 n x2 x3 v106 D k112)) else (g_X28_before_j90 x2 x3 x4 D (fun x2 x3 x4 D57 => g_X28_before_l57 n x2 x3 x4 D57 k112))))))
    refine pr_ite (fun c63 => ?_) (fun c63 => ?_)
    exact hk112 _ 
    refine pr_ite (fun c69 => ?_) (fun c69 => ?_)
    refine g_X28_before_j90_pr (fun x2 x3 x4 D57 => ?_) _ _ _ _ 
    exact ih _ _ _ _ 
    refine pr_ck (fun ha78 => ?_)
    refine pr_ite (fun c87 => ?_) (fun c87 => ?_)
    refine pr_let (fun v106 => ?_)
    exact ih _ _ _ _ 
    refine g_X28_before_j90_pr (fun x2 x3 x4 D57 => ?_) _ _ _ _ 
    exact ih _ _ _ _ 
theorem g_X28_before_pr {x1 x2 : Int} {D : ga_D} : ga_pr D (g_X28_before x1 x2 D) := by
  unfold g_X28_before
  refine pr_bind (g_X28_isAct_pr) (fun r2 D2 => ?_)
  refine pr_ite (fun c5 => ?_) (fun c5 => ?_)
  exact pr_some
  refine pr_bind (g_X28_isAct_pr) (fun r10 D10 => ?_)
  refine pr_ite (fun c13 => ?_) (fun c13 => ?_)
  exact pr_some
  refine pr_ite (fun c18 => ?_) (fun c18 => ?_)
  exact pr_some
  refine pr_ck (fun ha26 => ?_)
  refine pr_ite (fun c35 => ?_) (fun c35 => ?_)
  refine pr_ck (fun ha45 => ?_)
  refine pr_let (fun v53 => ?_)
  refine g_X28_before_l57_pr (fun D112 => ?_) _ _ _ _ _ 
  refine pr_upd (ga_Pn K_4930 rfl) (fun D114 => ?_)
  exact pr_some
  exact pr_some
theorem g_X29_tell_pr {x0 x1 x2 x3 : Int} {D : ga_D} : ga_pr D (g_X29_tell x0 x1 x2 x3 D) := by
  unfold g_X29_tell
  refine pr_bind (g_X29_isWay_pr) (fun r1 D1 => ?_)
  refine pr_ite (fun c4 => ?_) (fun c4 => ?_)
  exact pr_some
  refine pr_bind (g_X29_isWay_pr) (fun r8 D8 => ?_)
  refine pr_ite (fun c11 => ?_) (fun c11 => ?_)
  exact pr_some
  refine pr_ite (fun c16 => ?_) (fun c16 => ?_)
  exact pr_some
  refine pr_ite (fun c22 => ?_) (fun c22 => ?_)
  exact pr_some
  refine pr_ite (fun c30 => ?_) (fun c30 => ?_)
  refine pr_ck (fun hk36_0 => ?_)
  refine pr_ck (fun ha47 => ?_)
  refine pr_upd (ga_Pn (KO_26_1 hk36_0) rfl) (fun D47 => ?_)
  exact pr_some
  exact pr_some
theorem g_X28_change_pr {x1 x2 x3 : Int} {D : ga_D} : ga_pr D (g_X28_change x1 x2 x3 D) := by
  unfold g_X28_change
  refine pr_bind (g_X29_tell_pr) (fun r7 D7 => ?_)
  refine pr_ite (fun c19 => ?_) (fun c19 => ?_)
  refine pr_ck (fun hp28 => ?_)
  refine pr_upd (ga_Pn K_4930 rfl) (fun D28 => ?_)
  refine pr_ck (fun hr33 => ?_)
  exact pr_some
  refine pr_ck (fun hp28 => ?_)
  refine pr_upd (ga_Pn K_4930 rfl) (fun D28 => ?_)
  refine pr_ck (fun hr33 => ?_)
  exact pr_some
theorem g_X28_turn_pr {x1 x2 x3 : Int} {D : ga_D} : ga_pr D (g_X28_turn x1 x2 x3 D) := by
  unfold g_X28_turn
  refine pr_bind (g_X29_tell_pr) (fun r7 D7 => ?_)
  refine pr_ite (fun c19 => ?_) (fun c19 => ?_)
  refine pr_ck (fun hp28 => ?_)
  refine pr_upd (ga_Pn K_4930 rfl) (fun D28 => ?_)
  refine pr_ck (fun hr33 => ?_)
  exact pr_some
  refine pr_ck (fun hp28 => ?_)
  refine pr_upd (ga_Pn K_4930 rfl) (fun D28 => ?_)
  refine pr_ck (fun hr33 => ?_)
  exact pr_some
theorem g_X28_worth_pr {x1 x2 : Int} {D : ga_D} : ga_pr D (g_X28_worth x1 x2 D) := by
  unfold g_X28_worth
  refine pr_bind (g_X28_isPart_pr) (fun r1 D1 => ?_)
  refine pr_ite (fun c4 => ?_) (fun c4 => ?_)
  exact pr_some
  refine pr_bind (g_X28_isIn_pr) (fun r14 D14 => ?_)
  refine pr_ite (fun c17 => ?_) (fun c17 => ?_)
  refine pr_ck (fun ha29 => ?_)
  refine pr_upd (ga_Pn K_4936 rfl) (fun D29 => ?_)
  refine pr_upd (ga_Pn K_4930 rfl) (fun D32 => ?_)
  exact pr_some
  exact pr_some
theorem g_X28_restOf_l2_pr  {k20 : Int → ga_D → ga_S} {k28 : ga_D → ga_S} (hk20 : ∀ (x2 : Int) (D : ga_D), ga_pr D (k20 x2 D)) (hk28 : ∀ (D : ga_D), ga_pr D (k28 D)) : ∀ (n : Nat) (x1 x2 : Int) (D : ga_D), ga_pr D (g_X28_restOf_l2 n x1 x2 D k20 k28) := by
  intro n
  induction n with
  | zero => intro x1 x2 D; exact pr_none
  | succ n ih =>
    intro x1 x2 D
    show ga_pr D (if D 4930 8 ≤ x2 then (k28 D) else (ga_ck (0 ≤ x2 ∧ x2 < 16) (if D 4938 x2 ≠ x1 then (ga_let (aw_w32 (x2 + 1)) (fun v22 => g_X28_restOf_l2 n x1 v22 D k20 k28)) else (k20 x2 D))))
    refine pr_ite (fun c7 => ?_) (fun c7 => ?_)
    exact hk28 _ 
    refine pr_ck (fun ha15 => ?_)
    refine pr_ite (fun c17 => ?_) (fun c17 => ?_)
    refine pr_let (fun v22 => ?_)
    exact ih _ _ _ 
    exact hk20 _ _ 
theorem g_X28_restOf_pr {x1 : Int} {D : ga_D} : ga_pr D (g_X28_restOf x1 D) := by
  unfold g_X28_restOf
  refine g_X28_restOf_l2_pr (fun x2 D20 => ?_) (fun D28 => ?_) _ _ _ _ 
  exact pr_some
  exact pr_some
theorem g_X28_rest_j68_pr  (x1 x3 x5 : Int) (D : ga_D) : ga_pr D (g_X28_rest_j68 x1 x3 x5 D) := by
  unfold g_X28_rest_j68
  refine pr_ck (fun ha76 => ?_)
  refine pr_upd (ga_Pn K_4938 rfl) (fun D76 => ?_)
  refine pr_ck (fun ha85 => ?_)
  refine pr_upd (ga_Pn K_4939 rfl) (fun D85 => ?_)
  refine pr_upd (ga_Pn K_4930 rfl) (fun D88 => ?_)
  exact pr_some
theorem g_X28_rest_j50_pr  (x1 x3 x5 : Int) (D : ga_D) : ga_pr D (g_X28_rest_j50 x1 x3 x5 D) := by
  unfold g_X28_rest_j50
  refine pr_ite (fun c52 => ?_) (fun c52 => ?_)
  refine g_X28_rest_j68_pr _ _ _ _ 
  refine pr_upd (ga_Pn K_4930 rfl) (fun D63 => ?_)
  refine pr_let (fun v66 => ?_)
  refine g_X28_rest_j68_pr _ _ _ _ 
theorem g_X28_rest_pr {x1 x3 : Int} {D : ga_D} : ga_pr D (g_X28_rest x1 x3 D) := by
  unfold g_X28_rest
  refine pr_bind (g_X28_isIn_pr) (fun r5 D5 => ?_)
  refine pr_ite (fun c8 => ?_) (fun c8 => ?_)
  exact pr_some
  refine pr_bind (g_X28_isIn_pr) (fun r18 D18 => ?_)
  refine pr_ite (fun c21 => ?_) (fun c21 => ?_)
  refine pr_bind (g_X28_restOf_pr) (fun r29 D29 => ?_)
  refine pr_ite (fun c36 => ?_) (fun c36 => ?_)
  refine g_X28_rest_j50_pr _ _ _ _ 
  refine pr_ite (fun c45 => ?_) (fun c45 => ?_)
  refine g_X28_rest_j50_pr _ _ _ _ 
  exact pr_some
  exact pr_some
theorem g_X28_breaks_pr {x1 : Int} {D : ga_D} : ga_pr D (g_X28_breaks x1 D) := by
  unfold g_X28_breaks
  refine pr_bind (g_X28_isAct_pr) (fun r2 D2 => ?_)
  refine pr_ite (fun c5 => ?_) (fun c5 => ?_)
  exact pr_some
  refine pr_ck (fun ha13 => ?_)
  refine pr_ite (fun c17 => ?_) (fun c17 => ?_)
  refine pr_ck (fun ha27 => ?_)
  refine pr_upd (ga_Pn (KE_4931 ha27.1 ha27.2) rfl) (fun D29 => ?_)
  refine pr_upd (ga_Pn K_4930 rfl) (fun D34 => ?_)
  exact pr_some
  exact pr_some
theorem g_X28_sure_pr {x1 x2 x4 : Int} {D : ga_D} : ga_pr D (g_X28_sure x1 x2 x4 D) := by
  unfold g_X28_sure
  refine pr_bind (g_X28_isPart_pr) (fun r1 D1 => ?_)
  refine pr_ite (fun c4 => ?_) (fun c4 => ?_)
  exact pr_some
  refine pr_bind (g_X28_isIn_pr) (fun r13 D13 => ?_)
  refine pr_ite (fun c16 => ?_) (fun c16 => ?_)
  exact pr_some
  refine pr_bind (g_X28_isIn_pr) (fun r23 D23 => ?_)
  refine pr_ite (fun c26 => ?_) (fun c26 => ?_)
  refine pr_ck (fun hz41 => ?_)
  refine pr_ck (fun ha45 => ?_)
  refine pr_upd (ga_Pn K_4937 rfl) (fun D45 => ?_)
  refine pr_upd (ga_Pn K_4930 rfl) (fun D48 => ?_)
  exact pr_some
  exact pr_some
theorem g_X28_isClosed_l4_pr  {k52 : Int → ga_D → ga_S} (hk52 : ∀ (x2 : Int) (D : ga_D), ga_pr D (k52 x2 D)) : ∀ (n : Nat) (x1 x2 x3 : Int) (D : ga_D), ga_pr D (g_X28_isClosed_l4 n x1 x2 x3 D k52) := by
  intro n
  induction n with
  | zero => intro x1 x2 x3 D; exact pr_none
  | succ n ih =>
    intro x1 x2 x3 D
    show ga_pr D (if D 4930 1 ≤ x3 then (k52 x2 D) else (if x2 = 0 then (k52 x2 D) else (if aw_and (aw_shr x1 x3) 1 = 0 then (ga_let (aw_w32 (x3 + 1)) (fun v46 => g_X28_isClosed_l4 n x1 1 v46 D k52)) else (ga_ck (0 ≤ x3 ∧ x3 < 10) (if aw_and (D ((x3 + 4946)) 5) (aw_xor x1 (-1)) ≠ 0 then (ga_let (aw_w32 (x3 + 1)) (fun v46 => g_X28_isClosed_l4 n x1 0 v46 D k52)) else (ga_let (aw_w32 (x3 + 1)) (fun v46 => g_X28_isClosed_l4 n x1 1 v46 D k52)))))))
    refine pr_ite (fun c9 => ?_) (fun c9 => ?_)
    exact hk52 _ _ 
    refine pr_ite (fun c13 => ?_) (fun c13 => ?_)
    exact hk52 _ _ 
    refine pr_ite (fun c21 => ?_) (fun c21 => ?_)
    refine pr_let (fun v46 => ?_)
    exact ih _ _ _ _ 
    refine pr_ck (fun ha29 => ?_)
    refine pr_ite (fun c37 => ?_) (fun c37 => ?_)
    refine pr_let (fun v46 => ?_)
    exact ih _ _ _ _ 
    refine pr_let (fun v46 => ?_)
    exact ih _ _ _ _ 
theorem g_X28_isClosed_pr {x1 : Int} {D : ga_D} : ga_pr D (g_X28_isClosed x1 D) := by
  unfold g_X28_isClosed
  refine g_X28_isClosed_l4_pr (fun x2 D52 => ?_) _ _ _ _ _ 
  refine pr_ck (fun hr53 => ?_)
  exact pr_some
theorem g_X28_isLast_pr {x1 x2 : Int} {D : ga_D} : ga_pr D (g_X28_isLast x1 x2 D) := by
  unfold g_X28_isLast
  refine pr_ite (fun c6 => ?_) (fun c6 => ?_)
  exact pr_some
  refine pr_bind (g_X28_isClosed_pr) (fun r15 D15 => ?_)
  refine pr_ite (fun c18 => ?_) (fun c18 => ?_)
  exact pr_some
  exact pr_some
theorem g_X28_states_l17_pr  {k58 : Int → Int → ga_D → ga_S} (hk58 : ∀ (x1 x3 : Int) (D : ga_D), ga_pr D (k58 x1 x3 D)) : ∀ (n : Nat) (x1 x3 x4 : Int) (D : ga_D), ga_pr D (g_X28_states_l17 n x1 x3 x4 D k58) := by
  intro n
  induction n with
  | zero => intro x1 x3 x4 D; exact pr_none
  | succ n ih =>
    intro x1 x3 x4 D
    show ga_pr D (if D 4930 1 ≤ x4 then (k58 x1 x3 D) else (ga_bind (g_X28_isClosed x3 D) (fun r28 D28 => if r28 = 0 then (k58 x1 x3 D28) else (ga_bind (g_X28_isLast x3 x4 D28) (fun r39 D39 => if r39 = 0 then (ga_let (aw_w64 (x1 + 0)) (fun v51 => ga_let (aw_w32 (x4 + 1)) (fun v52 => g_X28_states_l17 n v51 x3 v52 D39 k58))) else (ga_let (aw_w64 (x1 + 1)) (fun v51 => ga_let (aw_w32 (x4 + 1)) (fun v52 => g_X28_states_l17 n v51 x3 v52 D39 k58))))))))
    refine pr_ite (fun c23 => ?_) (fun c23 => ?_)
    exact hk58 _ _ _ 
    refine pr_bind (g_X28_isClosed_pr) (fun r28 D28 => ?_)
    refine pr_ite (fun c31 => ?_) (fun c31 => ?_)
    exact hk58 _ _ _ 
    refine pr_bind (g_X28_isLast_pr) (fun r39 D39 => ?_)
    refine pr_ite (fun c42 => ?_) (fun c42 => ?_)
    refine pr_let (fun v51 => ?_)
    refine pr_let (fun v52 => ?_)
    exact ih _ _ _ _ 
    refine pr_let (fun v51 => ?_)
    refine pr_let (fun v52 => ?_)
    exact ih _ _ _ _ 
theorem g_X28_states_l4_pr  {k64 : Int → ga_D → ga_S} (hk64 : ∀ (x1 : Int) (D : ga_D), ga_pr D (k64 x1 D)) : ∀ (n : Nat) (x1 x3 : Int) (D : ga_D), ga_pr D (g_X28_states_l4 n x1 x3 D k64) := by
  intro n
  induction n with
  | zero => intro x1 x3 D; exact pr_none
  | succ n ih =>
    intro x1 x3 D
    show ga_pr D (if aw_shl 1 (D 4930 1) ≤ x3 then (k64 x1 D) else (g_X28_states_l17 aw_fu x1 x3 0 D (fun x1 x3 D58 => ga_let (aw_w32 (x3 + 1)) (fun v58 => g_X28_states_l4 n x1 v58 D58 k64))))
    refine pr_ite (fun c11 => ?_) (fun c11 => ?_)
    exact hk64 _ _ 
    refine g_X28_states_l17_pr (fun x1 x3 D58 => ?_) _ _ _ _ _ 
    refine pr_let (fun v58 => ?_)
    exact ih _ _ _ 
theorem g_X28_states_pr {D : ga_D} : ga_pr D (g_X28_states D) := by
  unfold g_X28_states
  refine g_X28_states_l4_pr (fun x1 D64 => ?_) _ _ _ _ 
  exact pr_some
theorem g_X28_freeBy_l4_pr  {k57 : Int → ga_D → ga_S} (hk57 : ∀ (x2 : Int) (D : ga_D), ga_pr D (k57 x2 D)) : ∀ (n : Nat) (x1 x2 x3 : Int) (D : ga_D), ga_pr D (g_X28_freeBy_l4 n x1 x2 x3 D k57) := by
  intro n
  induction n with
  | zero => intro x1 x2 x3 D; exact pr_none
  | succ n ih =>
    intro x1 x2 x3 D
    show ga_pr D (if D 4930 1 ≤ x3 then (k57 x2 D) else (if aw_and (aw_shr x1 x3) 1 ≠ 1 then (ga_let (aw_or x2 0) (fun v50 => ga_let (aw_w32 (x3 + 1)) (fun v51 => g_X28_freeBy_l4 n x1 v50 v51 D k57))) else (ga_ck (0 ≤ x3 ∧ x3 < 10) (if D ((x3 + 4946)) 0 < 0 then (ga_let (aw_or x2 0) (fun v50 => ga_let (aw_w32 (x3 + 1)) (fun v51 => g_X28_freeBy_l4 n x1 v50 v51 D k57))) else (ga_ck (0 ≤ x3 ∧ x3 < 10) (ga_let (aw_or x2 (aw_shl 1 (D ((x3 + 4946)) 0))) (fun v50 => ga_let (aw_w32 (x3 + 1)) (fun v51 => g_X28_freeBy_l4 n x1 v50 v51 D k57))))))))
    refine pr_ite (fun c9 => ?_) (fun c9 => ?_)
    exact hk57 _ _ 
    refine pr_ite (fun c19 => ?_) (fun c19 => ?_)
    refine pr_let (fun v50 => ?_)
    refine pr_let (fun v51 => ?_)
    exact ih _ _ _ _ 
    refine pr_ck (fun ha27 => ?_)
    refine pr_ite (fun c31 => ?_) (fun c31 => ?_)
    refine pr_let (fun v50 => ?_)
    refine pr_let (fun v51 => ?_)
    exact ih _ _ _ _ 
    refine pr_ck (fun ha40 => ?_)
    refine pr_let (fun v50 => ?_)
    refine pr_let (fun v51 => ?_)
    exact ih _ _ _ _ 
theorem g_X28_freeBy_pr {x1 : Int} {D : ga_D} : ga_pr D (g_X28_freeBy x1 D) := by
  unfold g_X28_freeBy
  refine g_X28_freeBy_l4_pr (fun x2 D57 => ?_) _ _ _ _ _ 
  exact pr_some
theorem g_X28_brokenBy_l4_pr  {k69 : Int → ga_D → ga_S} (hk69 : ∀ (x2 : Int) (D : ga_D), ga_pr D (k69 x2 D)) : ∀ (n : Nat) (x1 x2 x3 : Int) (D : ga_D), ga_pr D (g_X28_brokenBy_l4 n x1 x2 x3 D k69) := by
  intro n
  induction n with
  | zero => intro x1 x2 x3 D; exact pr_none
  | succ n ih =>
    intro x1 x2 x3 D
    show ga_pr D (if D 4930 1 ≤ x3 then (k69 x2 D) else (if aw_and (aw_shr x1 x3) 1 ≠ 1 then (ga_let (aw_or x2 0) (fun v62 => ga_let (aw_w32 (x3 + 1)) (fun v63 => g_X28_brokenBy_l4 n x1 v62 v63 D k69))) else (ga_ck (0 ≤ x3 ∧ x3 < 10) (if D ((x3 + 4946)) 4 = 0 then (ga_let (aw_or x2 0) (fun v62 => ga_let (aw_w32 (x3 + 1)) (fun v63 => g_X28_brokenBy_l4 n x1 v62 v63 D k69))) else (ga_ck (0 ≤ x3 ∧ x3 < 10) (if D ((x3 + 4946)) 0 < 0 then (ga_let (aw_or x2 0) (fun v62 => ga_let (aw_w32 (x3 + 1)) (fun v63 => g_X28_brokenBy_l4 n x1 v62 v63 D k69))) else (ga_ck (0 ≤ x3 ∧ x3 < 10) (ga_let (aw_or x2 (aw_shl 1 (D ((x3 + 4946)) 0))) (fun v62 => ga_let (aw_w32 (x3 + 1)) (fun v63 => g_X28_brokenBy_l4 n x1 v62 v63 D k69))))))))))
    refine pr_ite (fun c9 => ?_) (fun c9 => ?_)
    exact hk69 _ _ 
    refine pr_ite (fun c19 => ?_) (fun c19 => ?_)
    refine pr_let (fun v62 => ?_)
    refine pr_let (fun v63 => ?_)
    exact ih _ _ _ _ 
    refine pr_ck (fun ha27 => ?_)
    refine pr_ite (fun c31 => ?_) (fun c31 => ?_)
    refine pr_let (fun v62 => ?_)
    refine pr_let (fun v63 => ?_)
    exact ih _ _ _ _ 
    refine pr_ck (fun ha39 => ?_)
    refine pr_ite (fun c43 => ?_) (fun c43 => ?_)
    refine pr_let (fun v62 => ?_)
    refine pr_let (fun v63 => ?_)
    exact ih _ _ _ _ 
    refine pr_ck (fun ha52 => ?_)
    refine pr_let (fun v62 => ?_)
    refine pr_let (fun v63 => ?_)
    exact ih _ _ _ _ 
theorem g_X28_brokenBy_pr {x1 : Int} {D : ga_D} : ga_pr D (g_X28_brokenBy x1 D) := by
  unfold g_X28_brokenBy
  refine g_X28_brokenBy_l4_pr (fun x2 D69 => ?_) _ _ _ _ _ 
  exact pr_some
theorem g_X28_worthOf_pr {x1 : Int} {D : ga_D} : ga_pr D (g_X28_worthOf x1 D) := by
  unfold g_X28_worthOf
  refine pr_ck (fun ha5 => ?_)
  refine pr_ck (fun ha12 => ?_)
  exact pr_some
theorem g_X28_counts_l22_pr  {k60 : Int → Int → ga_D → ga_S} (hk60 : ∀ (x2 x4 : Int) (D : ga_D), ga_pr D (k60 x2 x4 D)) : ∀ (n : Nat) (x2 x3 x4 x6 : Int) (D : ga_D), ga_pr D (g_X28_counts_l22 n x2 x3 x4 x6 D k60) := by
  intro n
  induction n with
  | zero => intro x2 x3 x4 x6 D; exact pr_none
  | succ n ih =>
    intro x2 x3 x4 x6 D
    show ga_pr D (if 12 ≤ x6 then (k60 x2 x4 D) else (if aw_and (aw_shr x3 x6) 1 ≠ 1 then (ga_let (aw_w64 (x4 + 0)) (fun v52 => ga_let (aw_w32 (x6 + 1)) (fun v54 => g_X28_counts_l22 n x2 x3 v52 v54 D k60))) else (ga_bind (g_X28_worthOf x6 D) (fun r44 D44 => ga_let (aw_w64 (x4 + r44)) (fun v52 => ga_let (aw_w32 (x6 + 1)) (fun v54 => g_X28_counts_l22 n x2 x3 v52 v54 D44 k60))))))
    refine pr_ite (fun c26 => ?_) (fun c26 => ?_)
    exact hk60 _ _ _ 
    refine pr_ite (fun c38 => ?_) (fun c38 => ?_)
    refine pr_let (fun v52 => ?_)
    refine pr_let (fun v54 => ?_)
    exact ih _ _ _ _ _ 
    refine pr_bind (g_X28_worthOf_pr) (fun r44 D44 => ?_)
    refine pr_let (fun v52 => ?_)
    refine pr_let (fun v54 => ?_)
    exact ih _ _ _ _ _ 
theorem g_X28_counts_pr {x1 : Int} {D : ga_D} : ga_pr D (g_X28_counts x1 D) := by
  unfold g_X28_counts
  refine pr_bind (g_X28_freeBy_pr) (fun r2 D2 => ?_)
  refine pr_bind (g_X28_brokenBy_pr) (fun r9 D9 => ?_)
  refine pr_let (fun v15 => ?_)
  refine g_X28_counts_l22_pr (fun x2 x4 D60 => ?_) _ _ _ _ _ _ 
  refine pr_bind (g_X28_restOf_pr) (fun r68 D68 => ?_)
  refine pr_ite (fun c75 => ?_) (fun c75 => ?_)
  refine pr_ck (fun ha94 => ?_)
  exact pr_some
  exact pr_some
theorem g_X28_at_pr {x0 x1 : Int} {D : ga_D} : ga_pr D (g_X28_at x0 x1 D) := by
  unfold g_X28_at
  refine pr_ite (fun c6 => ?_) (fun c6 => ?_)
  exact pr_some
  exact pr_some
theorem g_X28_mayCome_pr {x1 x2 : Int} {D : ga_D} : ga_pr D (g_X28_mayCome x1 x2 D) := by
  unfold g_X28_mayCome
  refine pr_ite (fun c5 => ?_) (fun c5 => ?_)
  exact pr_some
  refine pr_ck (fun ha13 => ?_)
  refine pr_ite (fun c21 => ?_) (fun c21 => ?_)
  exact pr_some
  exact pr_some
theorem g_X29_cost_pr {x0 x1 x2 : Int} {D : ga_D} : ga_pr D (g_X29_cost x0 x1 x2 D) := by
  unfold g_X29_cost
  refine pr_ck (fun hk1_0 => ?_)
  refine pr_ck (fun ha10 => ?_)
  exact pr_some
theorem g_X28_cost_pr {x1 x2 : Int} {D : ga_D} : ga_pr D (g_X28_cost x1 x2 D) := by
  unfold g_X28_cost
  refine pr_ck (fun ha5 => ?_)
  refine pr_let (fun v10 => ?_)
  refine pr_ite (fun c13 => ?_) (fun c13 => ?_)
  exact pr_some
  refine pr_ck (fun ha26 => ?_)
  refine pr_ck (fun ha35 => ?_)
  refine pr_bind (g_X29_cost_pr) (fun r39 D39 => ?_)
  refine pr_ck (fun ha51 => ?_)
  refine pr_ck (fun ha60 => ?_)
  refine pr_bind (g_X29_cost_pr) (fun r64 D64 => ?_)
  refine pr_let (fun v70 => ?_)
  exact pr_some
theorem g_X28_goOn_l7_pr  {k61 : Int → ga_D → ga_S} (hk61 : ∀ (x3 : Int) (D : ga_D), ga_pr D (k61 x3 D)) : ∀ (n : Nat) (x1 x2 x3 x5 : Int) (D : ga_D), ga_pr D (g_X28_goOn_l7 n x1 x2 x3 x5 D k61) := by
  intro n
  induction n with
  | zero => intro x1 x2 x3 x5 D; exact pr_none
  | succ n ih =>
    intro x1 x2 x3 x5 D
    show ga_pr D (if D 4930 1 ≤ x5 then (k61 x3 D) else (ga_bind (g_X28_mayCome x1 x5 D) (fun r20 D20 => if r20 = 0 then (ga_let (aw_w32 (x5 + 1)) (fun v55 => g_X28_goOn_l7 n x1 x2 x3 v55 D20 k61)) else (ga_bind (g_X28_at (aw_or x1 (aw_shl 1 x5)) x5 D20) (fun r39 D39 => ga_ck (0 ≤ r39 ∧ r39 < 11264) (ga_bind (g_X28_cost x2 x5 D39) (fun r47 D47 => ga_let (aw_max x3 (aw_w64 ((D39 4940 r39) - r47))) (fun v54 => ga_let (aw_w32 (x5 + 1)) (fun v55 => g_X28_goOn_l7 n x1 x2 v54 v55 D47 k61)))))))))
    refine pr_ite (fun c13 => ?_) (fun c13 => ?_)
    exact hk61 _ _ 
    refine pr_bind (g_X28_mayCome_pr) (fun r20 D20 => ?_)
    refine pr_ite (fun c23 => ?_) (fun c23 => ?_)
    refine pr_let (fun v55 => ?_)
    exact ih _ _ _ _ _ 
    refine pr_bind (g_X28_at_pr) (fun r39 D39 => ?_)
    refine pr_ck (fun ha42 => ?_)
    refine pr_bind (g_X28_cost_pr) (fun r47 D47 => ?_)
    refine pr_let (fun v54 => ?_)
    refine pr_let (fun v55 => ?_)
    exact ih _ _ _ _ _ 
theorem g_X28_goOn_pr {x1 x2 : Int} {D : ga_D} : ga_pr D (g_X28_goOn x1 x2 D) := by
  unfold g_X28_goOn
  refine g_X28_goOn_l7_pr (fun x3 D61 => ?_) _ _ _ _ _ _ 
  exact pr_some
theorem g_X28_fill_j71_pr  {k38 : Int → Int → Int → ga_D → ga_S} (hk38 : ∀ (x1 x2 x4 : Int) (D : ga_D), ga_pr D (k38 x1 x2 x4 D)) (x1 x2 x4 : Int) (D : ga_D) : ga_pr D (g_X28_fill_j71 x1 x2 x4 D k38) := by
  unfold g_X28_fill_j71
  refine pr_bind (g_X28_at_pr) (fun r78 D78 => ?_)
  refine pr_bind (g_X28_goOn_pr) (fun r86 D86 => ?_)
  refine pr_ck (fun ha92 => ?_)
  refine pr_upd (ga_Pn K_4940 rfl) (fun D92 => ?_)
  refine pr_let (fun v93 => ?_)
  exact hk38 _ _ _ _ 
theorem g_X28_fill_j52_pr  {k38 : Int → Int → Int → ga_D → ga_S} {k99 : Int → ga_D → ga_S} (hk38 : ∀ (x1 x2 x4 : Int) (D : ga_D), ga_pr D (k38 x1 x2 x4 D)) (hk99 : ∀ (x1 : Int) (D : ga_D), ga_pr D (k99 x1 D)) (x1 x2 x4 s0 s1 : Int) (D : ga_D) : ga_pr D (g_X28_fill_j52 x1 x2 x4 s0 s1 D k38 k99) := by
  unfold g_X28_fill_j52
  refine pr_ite (fun c52 => ?_) (fun c52 => ?_)
  exact hk99 _ _ 
  refine pr_ite (fun c58 => ?_) (fun c58 => ?_)
  refine g_X28_fill_j71_pr (fun x1 x2 x4 D38 => ?_) _ _ _ _ 
  exact hk38 _ _ _ _ 
  refine pr_bind (g_X28_isLast_pr) (fun r65 D65 => ?_)
  refine pr_ite (fun c68 => ?_) (fun c68 => ?_)
  refine pr_let (fun v93 => ?_)
  exact hk38 _ _ _ _ 
  refine g_X28_fill_j71_pr (fun x1 x2 x4 D38 => ?_) _ _ _ _ 
  exact hk38 _ _ _ _ 
theorem g_X28_fill_l38_pr  {k99 : Int → ga_D → ga_S} (hk99 : ∀ (x1 : Int) (D : ga_D), ga_pr D (k99 x1 D)) : ∀ (n : Nat) (x1 x2 x4 : Int) (D : ga_D), ga_pr D (g_X28_fill_l38 n x1 x2 x4 D k99) := by
  intro n
  induction n with
  | zero => intro x1 x2 x4 D; exact pr_none
  | succ n ih =>
    intro x1 x2 x4 D
    show ga_pr D (if x1 ≠ 0 then (g_X28_fill_j52 x1 x2 x4 (D 4930 1) x4 D (fun x1 x2 x4 D38 => g_X28_fill_l38 n x1 x2 x4 D38 k99) (fun x1 D99 => k99 x1 D99)) else (g_X28_fill_j52 x1 x2 x4 0 x4 D (fun x1 x2 x4 D38 => g_X28_fill_l38 n x1 x2 x4 D38 k99) (fun x1 D99 => k99 x1 D99)))
    refine pr_ite (fun c41 => ?_) (fun c41 => ?_)
    refine g_X28_fill_j52_pr (fun x1 x2 x4 D38 => ?_) (fun x1 D99 => ?_) _ _ _ _ _ _ 
    exact ih _ _ _ _ 
    exact hk99 _ _ 
    refine g_X28_fill_j52_pr (fun x1 x2 x4 D38 => ?_) (fun x1 D99 => ?_) _ _ _ _ _ _ 
    exact ih _ _ _ _ 
    exact hk99 _ _ 
theorem g_X28_fill_l9_pr  {k105 : ga_D → ga_S} (hk105 : ∀ (D : ga_D), ga_pr D (k105 D)) : ∀ (n : Nat) (x1 : Int) (D : ga_D), ga_pr D (g_X28_fill_l9 n x1 D k105) := by
  intro n
  induction n with
  | zero => intro x1 D; exact pr_none
  | succ n ih =>
    intro x1 D
    show ga_pr D (if x1 < 0 then (k105 D) else (ga_bind (g_X28_isClosed x1 D) (fun r15 D15 => if r15 = 0 then (ga_let (aw_w32 (x1 + (-1))) (fun v99 => g_X28_fill_l9 n v99 D15 k105)) else (ga_bind (g_X28_counts x1 D15) (fun r23 D23 => if x1 ≠ 0 then (g_X28_fill_l38 aw_fu x1 r23 0 D23 (fun x1 D99 => ga_let (aw_w32 (x1 + (-1))) (fun v99 => g_X28_fill_l9 n v99 D99 k105))) else (g_X28_fill_l38 aw_fu x1 r23 (-1) D23 (fun x1 D99 => ga_let (aw_w32 (x1 + (-1))) (fun v99 => g_X28_fill_l9 n v99 D99 k105))))))))
    refine pr_ite (fun c10 => ?_) (fun c10 => ?_)
    exact hk105 _ 
    refine pr_bind (g_X28_isClosed_pr) (fun r15 D15 => ?_)
    refine pr_ite (fun c18 => ?_) (fun c18 => ?_)
    refine pr_let (fun v99 => ?_)
    exact ih _ _ 
    refine pr_bind (g_X28_counts_pr) (fun r23 D23 => ?_)
    refine pr_ite (fun c28 => ?_) (fun c28 => ?_)
    refine g_X28_fill_l38_pr (fun x1 D99 => ?_) _ _ _ _ _ 
    refine pr_let (fun v99 => ?_)
    exact ih _ _ 
    refine g_X28_fill_l38_pr (fun x1 D99 => ?_) _ _ _ _ _ 
    refine pr_let (fun v99 => ?_)
    exact ih _ _ 
theorem g_X28_fill_pr {D : ga_D} : ga_pr D (g_X28_fill D) := by
  unfold g_X28_fill
  refine pr_let (fun v8 => ?_)
  refine g_X28_fill_l9_pr (fun D105 => ?_) _ _ _ 
  refine pr_bind (g_X28_at_pr) (fun r111 D111 => ?_)
  refine pr_ck (fun ha114 => ?_)
  exact pr_some
theorem g_X28_run_l52_pr  {k108 : Int → Int → ga_D → ga_S} (hk108 : ∀ (x3 x5 : Int) (D : ga_D), ga_pr D (k108 x3 x5 D)) : ∀ (n : Nat) (x3 x4 x5 : Int) (D : ga_D), ga_pr D (g_X28_run_l52 n x3 x4 x5 D k108) := by
  intro n
  induction n with
  | zero => intro x3 x4 x5 D; exact pr_none
  | succ n ih =>
    intro x3 x4 x5 D
    show ga_pr D (ga_bind (g_X28_mayCome x3 x5 D) (fun r56 D56 => if r56 = 0 then (ga_let (aw_w32 (x5 + 1)) (fun v102 => g_X28_run_l52 n x3 x4 v102 D56 k108)) else (ga_bind (g_X28_at (aw_or x3 (aw_shl 1 x5)) x5 D56) (fun r74 D74 => ga_ck (0 ≤ r74 ∧ r74 < 11264) (ga_bind (g_X28_cost x4 x5 D74) (fun r83 D83 => ga_bind (g_X28_at x3 x4 D83) (fun r94 D94 => ga_ck (0 ≤ r94 ∧ r94 < 11264) (if aw_w64 ((D74 4940 r74) - r83) = D94 4940 r94 then (k108 x3 x5 D94) else (ga_let (aw_w32 (x5 + 1)) (fun v102 => g_X28_run_l52 n x3 x4 v102 D94 k108))))))))))
    refine pr_bind (g_X28_mayCome_pr) (fun r56 D56 => ?_)
    refine pr_ite (fun c59 => ?_) (fun c59 => ?_)
    refine pr_let (fun v102 => ?_)
    exact ih _ _ _ _ 
    refine pr_bind (g_X28_at_pr) (fun r74 D74 => ?_)
    refine pr_ck (fun ha77 => ?_)
    refine pr_bind (g_X28_cost_pr) (fun r83 D83 => ?_)
    refine pr_bind (g_X28_at_pr) (fun r94 D94 => ?_)
    refine pr_ck (fun ha97 => ?_)
    refine pr_ite (fun c99 => ?_) (fun c99 => ?_)
    exact hk108 _ _ _ 
    refine pr_let (fun v102 => ?_)
    exact ih _ _ _ _ 
theorem g_X28_run_l29_pr  {k140 : Int → ga_D → ga_S} (hk140 : ∀ (x3 : Int) (D : ga_D), ga_pr D (k140 x3 D)) : ∀ (n : Nat) (x3 x4 : Int) (D : ga_D), ga_pr D (g_X28_run_l29 n x3 x4 D k140) := by
  intro n
  induction n with
  | zero => intro x3 x4 D; exact pr_none
  | succ n ih =>
    intro x3 x4 D
    show ga_pr D (ga_bind (g_X28_counts x3 D) (fun r31 D31 => ga_bind (g_X28_at x3 x4 D31) (fun r41 D41 => ga_ck (0 ≤ r41 ∧ r41 < 11264) (if r31 = D41 4940 r41 then (k140 x3 D41) else (g_X28_run_l52 aw_fu x3 x4 0 D41 (fun x3 x5 D108 => ga_let (ga_set D108 4930 13 (aw_w32 ((D108 4930 13) + 1))) (fun D120 => ga_ck (0 ≤ D108 4930 13 ∧ D108 4930 13 < 10) (ga_let (ga_set D120 4941 (D108 4930 13) x5) (fun D125 => ga_let (aw_or x3 (aw_shl 1 x5)) (fun v132 => g_X28_run_l29 n v132 x5 D125 k140))))))))))
    refine pr_bind (g_X28_counts_pr) (fun r31 D31 => ?_)
    refine pr_bind (g_X28_at_pr) (fun r41 D41 => ?_)
    refine pr_ck (fun ha44 => ?_)
    refine pr_ite (fun c46 => ?_) (fun c46 => ?_)
    exact hk140 _ _ 
    refine g_X28_run_l52_pr (fun x3 x5 D108 => ?_) _ _ _ _ _ 
    refine pr_upd (ga_Pn K_4930 rfl) (fun D120 => ?_)
    refine pr_ck (fun ha125 => ?_)
    refine pr_upd (ga_Pn K_4941 rfl) (fun D125 => ?_)
    refine pr_let (fun v132 => ?_)
    exact ih _ _ _ 
theorem g_X28_run_l187_pr  {k228 : ga_D → ga_S} (hk228 : ∀ (D : ga_D), ga_pr D (k228 D)) : ∀ (n : Nat) (x6 x7 : Int) (D : ga_D), ga_pr D (g_X28_run_l187 n x6 x7 D k228) := by
  intro n
  induction n with
  | zero => intro x6 x7 D; exact pr_none
  | succ n ih =>
    intro x6 x7 D
    show ga_pr D (if 12 ≤ x7 then (k228 D) else (if aw_and (aw_shr x6 x7) 1 ≠ 1 then (ga_ck (0 ≤ x7 ∧ x7 < 12) (ga_let (ga_set D 4942 x7 0) (fun D221 => ga_let (aw_w32 (x7 + 1)) (fun v222 => g_X28_run_l187 n x6 v222 D221 k228)))) else (ga_bind (g_X28_worthOf x7 D) (fun r214 D214 => ga_ck (0 ≤ x7 ∧ x7 < 12) (ga_let (ga_set D214 4942 x7 r214) (fun D221 => ga_let (aw_w32 (x7 + 1)) (fun v222 => g_X28_run_l187 n x6 v222 D221 k228)))))))
    refine pr_ite (fun c191 => ?_) (fun c191 => ?_)
    exact hk228 _ 
    refine pr_ite (fun c208 => ?_) (fun c208 => ?_)
    refine pr_ck (fun ha221 => ?_)
    refine pr_upd (ga_Pn K_4942 rfl) (fun D221 => ?_)
    refine pr_let (fun v222 => ?_)
    exact ih _ _ _ 
    refine pr_bind (g_X28_worthOf_pr) (fun r214 D214 => ?_)
    refine pr_ck (fun ha221 => ?_)
    refine pr_upd (ga_Pn K_4942 rfl) (fun D221 => ?_)
    refine pr_let (fun v222 => ?_)
    exact ih _ _ _ 
theorem g_X28_run_pr {x1 : Int} {D : ga_D} : ga_pr D (g_X28_run x1 D) := by
  unfold g_X28_run
  refine pr_bind (g_X28_states_pr) (fun r1 D1 => ?_)
  refine pr_ite (fun c6 => ?_) (fun c6 => ?_)
  refine pr_bind (g_X28_fill_pr) (fun r13 D13 => ?_)
  refine pr_upd (ga_Pn K_4930 rfl) (fun D16 => ?_)
  refine pr_upd (ga_Pn K_4930 rfl) (fun D26 => ?_)
  refine g_X28_run_l29_pr (fun x3 D140 => ?_) _ _ _ _ 
  refine pr_upd (ga_Pn K_4930 rfl) (fun D142 => ?_)
  refine pr_upd (ga_Pn K_4930 rfl) (fun D150 => ?_)
  refine pr_bind (g_X28_freeBy_pr) (fun r155 D155 => ?_)
  refine pr_bind (g_X28_brokenBy_pr) (fun r164 D164 => ?_)
  refine pr_let (fun v170 => ?_)
  refine pr_upd (ga_Pn K_4930 rfl) (fun D181 => ?_)
  refine g_X28_run_l187_pr (fun D228 => ?_) _ _ _ _ 
  refine pr_upd (ga_Pn K_4930 rfl) (fun D230 => ?_)
  refine pr_upd (ga_Pn K_4930 rfl) (fun D235 => ?_)
  exact pr_some
  exact pr_some
theorem g_X28_step_pr {x1 : Int} {D : ga_D} : ga_pr D (g_X28_step x1 D) := by
  unfold g_X28_step
  refine pr_ite (fun c1 => ?_) (fun c1 => ?_)
  exact pr_some
  refine pr_ite (fun c9 => ?_) (fun c9 => ?_)
  exact pr_some
  refine pr_ck (fun ha17 => ?_)
  exact pr_some
theorem g_X28_bit_l4_pr  {k25 : Int → Int → ga_D → ga_S} (hk25 : ∀ (x1 x2 : Int) (D : ga_D), ga_pr D (k25 x1 x2 D)) : ∀ (n : Nat) (x1 x2 x3 : Int) (D : ga_D), ga_pr D (g_X28_bit_l4 n x1 x2 x3 D k25) := by
  intro n
  induction n with
  | zero => intro x1 x2 x3 D; exact pr_none
  | succ n ih =>
    intro x1 x2 x3 D
    show ga_pr D (if x1 ≤ x3 then (k25 x1 x2 D) else (if x2 = 0 then (k25 x1 x2 D) else (ga_let (aw_and x2 (aw_w32 (x2 - 1))) (fun v18 => ga_let (aw_w32 (x3 + 1)) (fun v19 => g_X28_bit_l4 n x1 v18 v19 D k25)))))
    refine pr_ite (fun c6 => ?_) (fun c6 => ?_)
    exact hk25 _ _ _ 
    refine pr_ite (fun c10 => ?_) (fun c10 => ?_)
    exact hk25 _ _ _ 
    refine pr_let (fun v18 => ?_)
    refine pr_let (fun v19 => ?_)
    exact ih _ _ _ _ 
theorem g_X28_bit_j25_pr  (x1 x2 : Int) (D : ga_D) : ga_pr D (g_X28_bit_j25 x1 x2 D) := by
  unfold g_X28_bit_j25
  refine pr_ite (fun c26 => ?_) (fun c26 => ?_)
  exact pr_some
  refine pr_ite (fun c30 => ?_) (fun c30 => ?_)
  refine pr_bind (g_J25_numberOfTrailingZeros_pr) (fun r38 D38 => ?_)
  exact pr_some
  exact pr_some
theorem g_X28_bit_pr {x0 x1 : Int} {D : ga_D} : ga_pr D (g_X28_bit x0 x1 D) := by
  unfold g_X28_bit
  refine g_X28_bit_l4_pr (fun x1 x2 D25 => ?_) _ _ _ _ _ 
  refine g_X28_bit_j25_pr _ _ _ 
theorem g_X28_stops_pr {x1 : Int} {D : ga_D} : ga_pr D (g_X28_stops x1 D) := by
  unfold g_X28_stops
  refine pr_ite (fun c4 => ?_) (fun c4 => ?_)
  exact pr_some
  refine pr_bind (g_X28_bit_pr) (fun r12 D12 => ?_)
  exact pr_some
theorem g_X28_other_pr {x1 : Int} {D : ga_D} : ga_pr D (g_X28_other x1 D) := by
  unfold g_X28_other
  refine pr_ite (fun c4 => ?_) (fun c4 => ?_)
  exact pr_some
  refine pr_bind (g_X28_bit_pr) (fun r23 D23 => ?_)
  exact pr_some
theorem g_X28_gain_pr {x1 : Int} {D : ga_D} : ga_pr D (g_X28_gain x1 D) := by
  unfold g_X28_gain
  refine pr_ite (fun c4 => ?_) (fun c4 => ?_)
  exact pr_some
  refine pr_ite (fun c9 => ?_) (fun c9 => ?_)
  exact pr_some
  refine pr_ite (fun c15 => ?_) (fun c15 => ?_)
  refine pr_ite (fun c22 => ?_) (fun c22 => ?_)
  refine pr_ck (fun ha37 => ?_)
  exact pr_some
  exact pr_some
  exact pr_some
theorem g_X28_proved_pr {D : ga_D} : ga_pr D (g_X28_proved D) := by
  unfold g_X28_proved
  refine pr_ck (fun hr4 => ?_)
  exact pr_some
theorem g_X28_bound_l4_pr  {k28 : Int → ga_D → ga_S} (hk28 : ∀ (x1 : Int) (D : ga_D), ga_pr D (k28 x1 D)) : ∀ (n : Nat) (x1 x3 : Int) (D : ga_D), ga_pr D (g_X28_bound_l4 n x1 x3 D k28) := by
  intro n
  induction n with
  | zero => intro x1 x3 D; exact pr_none
  | succ n ih =>
    intro x1 x3 D
    show ga_pr D (if 12 ≤ x3 then (k28 x1 D) else (ga_bind (g_X28_worthOf x3 D) (fun r14 D14 => ga_let (aw_w64 (x1 + (aw_max 0 r14))) (fun v21 => ga_let (aw_w32 (x3 + 1)) (fun v22 => g_X28_bound_l4 n v21 v22 D14 k28)))))
    refine pr_ite (fun c7 => ?_) (fun c7 => ?_)
    exact hk28 _ _ 
    refine pr_bind (g_X28_worthOf_pr) (fun r14 D14 => ?_)
    refine pr_let (fun v21 => ?_)
    refine pr_let (fun v22 => ?_)
    exact ih _ _ _ 
theorem g_X28_bound_l33_pr  {k60 : Int → Int → ga_D → ga_S} (hk60 : ∀ (x1 x3 : Int) (D : ga_D), ga_pr D (k60 x1 x3 D)) : ∀ (n : Nat) (x1 x3 x4 : Int) (D : ga_D), ga_pr D (g_X28_bound_l33 n x1 x3 x4 D k60) := by
  intro n
  induction n with
  | zero => intro x1 x3 x4 D; exact pr_none
  | succ n ih =>
    intro x1 x3 x4 D
    show ga_pr D (if D 4930 8 ≤ x4 then (k60 x1 x3 D) else (ga_ck (0 ≤ x4 ∧ x4 < 16) (ga_let (aw_max x3 (D 4939 x4)) (fun v53 => ga_let (aw_w32 (x4 + 1)) (fun v54 => g_X28_bound_l33 n x1 v53 v54 D k60)))))
    refine pr_ite (fun c39 => ?_) (fun c39 => ?_)
    exact hk60 _ _ _ 
    refine pr_ck (fun ha49 => ?_)
    refine pr_let (fun v53 => ?_)
    refine pr_let (fun v54 => ?_)
    exact ih _ _ _ _ 
theorem g_X28_bound_pr {D : ga_D} : ga_pr D (g_X28_bound D) := by
  unfold g_X28_bound
  refine g_X28_bound_l4_pr (fun x1 D28 => ?_) _ _ _ _ 
  refine g_X28_bound_l33_pr (fun x1 x3 D60 => ?_) _ _ _ _ _ 
  exact pr_some
theorem g_X28_test_pr {x1 x2 : Int} {D : ga_D} : ga_pr D (g_X28_test x1 x2 D) := by
  unfold g_X28_test
  refine pr_bind (g_X28_isPart_pr) (fun r1 D1 => ?_)
  refine pr_ite (fun c4 => ?_) (fun c4 => ?_)
  exact pr_some
  refine pr_bind (g_X28_isIn_pr) (fun r12 D12 => ?_)
  refine pr_ite (fun c15 => ?_) (fun c15 => ?_)
  refine pr_ck (fun ha25 => ?_)
  refine pr_let (fun v26 => ?_)
  refine pr_bind (g_X28_fill_pr) (fun r29 D29 => ?_)
  refine pr_ck (fun ha42 => ?_)
  refine pr_upd (ga_Pn K_4937 rfl) (fun D42 => ?_)
  refine pr_bind (g_X28_fill_pr) (fun r44 D44 => ?_)
  refine pr_ck (fun ha55 => ?_)
  refine pr_upd (ga_Pn K_4937 rfl) (fun D55 => ?_)
  refine pr_bind (g_X28_fill_pr) (fun r57 D57 => ?_)
  refine pr_ck (fun ha69 => ?_)
  refine pr_upd (ga_Pn K_4937 rfl) (fun D69 => ?_)
  refine pr_ite (fun c100 => ?_) (fun c100 => ?_)
  exact pr_some
  exact pr_some
  exact pr_some
theorem g_X28_nextOf_l4_pr  {k27 : Int → ga_D → ga_S} (hk27 : ∀ (x2 : Int) (D : ga_D), ga_pr D (k27 x2 D)) : ∀ (n : Nat) (x2 : Int) (D : ga_D), ga_pr D (g_X28_nextOf_l4 n x2 D k27) := by
  intro n
  induction n with
  | zero => intro x2 D; exact pr_none
  | succ n ih =>
    intro x2 D
    show ga_pr D (if 10 ≤ x2 then (k27 x2 D) else (if aw_and (aw_shr (D 4930 14) x2) 1 ≠ 0 then (k27 x2 D) else (ga_let (aw_w32 (x2 + 1)) (fun v21 => g_X28_nextOf_l4 n v21 D k27))))
    refine pr_ite (fun c7 => ?_) (fun c7 => ?_)
    exact hk27 _ _ 
    refine pr_ite (fun c18 => ?_) (fun c18 => ?_)
    exact hk27 _ _ 
    refine pr_let (fun v21 => ?_)
    exact ih _ _ 
theorem g_X28_nextOf_j27_pr  (x2 : Int) (D : ga_D) : ga_pr D (g_X28_nextOf_j27 x2 D) := by
  unfold g_X28_nextOf_j27
  refine pr_ite (fun c30 => ?_) (fun c30 => ?_)
  exact pr_some
  exact pr_some
theorem g_X28_nextOf_pr {x1 : Int} {D : ga_D} : ga_pr D (g_X28_nextOf x1 D) := by
  unfold g_X28_nextOf
  refine pr_let (fun v3 => ?_)
  refine g_X28_nextOf_l4_pr (fun x2 D27 => ?_) _ _ _ 
  refine g_X28_nextOf_j27_pr _ _ 
theorem g_X28_lastOf_l4_pr  {k25 : Int → ga_D → ga_S} (hk25 : ∀ (x2 : Int) (D : ga_D), ga_pr D (k25 x2 D)) : ∀ (n : Nat) (x2 : Int) (D : ga_D), ga_pr D (g_X28_lastOf_l4 n x2 D k25) := by
  intro n
  induction n with
  | zero => intro x2 D; exact pr_none
  | succ n ih =>
    intro x2 D
    show ga_pr D (if x2 < 0 then (k25 x2 D) else (if aw_and (aw_shr (D 4930 14) x2) 1 ≠ 0 then (k25 x2 D) else (ga_let (aw_w32 (x2 + (-1))) (fun v19 => g_X28_lastOf_l4 n v19 D k25))))
    refine pr_ite (fun c5 => ?_) (fun c5 => ?_)
    exact hk25 _ _ 
    refine pr_ite (fun c16 => ?_) (fun c16 => ?_)
    exact hk25 _ _ 
    refine pr_let (fun v19 => ?_)
    exact ih _ _ 
theorem g_X28_lastOf_pr {x1 : Int} {D : ga_D} : ga_pr D (g_X28_lastOf x1 D) := by
  unfold g_X28_lastOf
  refine pr_let (fun v3 => ?_)
  refine g_X28_lastOf_l4_pr (fun x2 D25 => ?_) _ _ _ 
  exact pr_some
theorem g_X28_isAllowed_j56_pr  {k4 : Int → Int → Int → ga_D → ga_S} (hk4 : ∀ (x1 x2 x3 : Int) (D : ga_D), ga_pr D (k4 x1 x2 x3 D)) (x1 x3 : Int) (D : ga_D) : ga_pr D (g_X28_isAllowed_j56 x1 x3 D k4) := by
  unfold g_X28_isAllowed_j56
  refine pr_ck (fun ha61 => ?_)
  refine pr_ite (fun c69 => ?_) (fun c69 => ?_)
  refine pr_let (fun v93 => ?_)
  exact hk4 _ _ _ _ 
  refine pr_ck (fun ha77 => ?_)
  refine pr_ck (fun ha83 => ?_)
  refine pr_ite (fun c84 => ?_) (fun c84 => ?_)
  refine pr_let (fun v93 => ?_)
  exact hk4 _ _ _ _ 
  refine pr_let (fun v93 => ?_)
  exact hk4 _ _ _ _ 
theorem g_X28_isAllowed_l4_pr  {k99 : Int → ga_D → ga_S} (hk99 : ∀ (x2 : Int) (D : ga_D), ga_pr D (k99 x2 D)) : ∀ (n : Nat) (x1 x2 x3 : Int) (D : ga_D), ga_pr D (g_X28_isAllowed_l4 n x1 x2 x3 D k99) := by
  intro n
  induction n with
  | zero => intro x1 x2 x3 D; exact pr_none
  | succ n ih =>
    intro x1 x2 x3 D
    show ga_pr D (if x1 ≤ x3 then (k99 x2 D) else (if x2 = 0 then (k99 x2 D) else (if aw_and (aw_shr (D 4930 14) x3) 1 ≠ 1 then (ga_let (aw_w32 (x3 + 1)) (fun v93 => g_X28_isAllowed_l4 n x1 x2 v93 D k99)) else (ga_ck (0 ≤ x1 ∧ x1 < 10) (if aw_and (aw_shr (D ((x1 + 4946)) 5) x3) 1 = 0 then (g_X28_isAllowed_j56 x1 x3 D (fun x1 x2 x3 D4 => g_X28_isAllowed_l4 n x1 x2 x3 D4 k99)) else (ga_ck (0 ≤ x3 ∧ x3 < 10) (ga_ck (0 ≤ x1 ∧ x1 < 10) (if D 4944 x1 < D 4944 x3 then (ga_let (aw_w32 (x3 + 1)) (fun v93 => g_X28_isAllowed_l4 n x1 0 v93 D k99)) else (g_X28_isAllowed_j56 x1 x3 D (fun x1 x2 x3 D4 => g_X28_isAllowed_l4 n x1 x2 x3 D4 k99))))))))))
    refine pr_ite (fun c6 => ?_) (fun c6 => ?_)
    exact hk99 _ _ 
    refine pr_ite (fun c10 => ?_) (fun c10 => ?_)
    exact hk99 _ _ 
    refine pr_ite (fun c22 => ?_) (fun c22 => ?_)
    refine pr_let (fun v93 => ?_)
    exact ih _ _ _ _ 
    refine pr_ck (fun ha30 => ?_)
    refine pr_ite (fun c38 => ?_) (fun c38 => ?_)
    refine g_X28_isAllowed_j56_pr (fun x1 x2 x3 D4 => ?_) _ _ _ 
    exact ih _ _ _ _ 
    refine pr_ck (fun ha46 => ?_)
    refine pr_ck (fun ha52 => ?_)
    refine pr_ite (fun c53 => ?_) (fun c53 => ?_)
    refine pr_let (fun v93 => ?_)
    exact ih _ _ _ _ 
    refine g_X28_isAllowed_j56_pr (fun x1 x2 x3 D4 => ?_) _ _ _ 
    exact ih _ _ _ _ 
theorem g_X28_isAllowed_pr {x1 : Int} {D : ga_D} : ga_pr D (g_X28_isAllowed x1 D) := by
  unfold g_X28_isAllowed
  refine g_X28_isAllowed_l4_pr (fun x2 D99 => ?_) _ _ _ _ _ 
  refine pr_ck (fun hr100 => ?_)
  exact pr_some
theorem g_X28_longest_l5_pr  {k29 : Int → ga_D → ga_S} (hk29 : ∀ (x2 : Int) (D : ga_D), ga_pr D (k29 x2 D)) : ∀ (n : Nat) (x1 x2 x4 : Int) (D : ga_D), ga_pr D (g_X28_longest_l5 n x1 x2 x4 D k29) := by
  intro n
  induction n with
  | zero => intro x1 x2 x4 D; exact pr_none
  | succ n ih =>
    intro x1 x2 x4 D
    show ga_pr D (if x1 ≤ x4 then (k29 x2 D) else (ga_ck (0 ≤ x4 ∧ x4 < 4) (ga_let (aw_max x2 (D 4945 x4)) (fun v22 => ga_let (aw_w32 (x4 + 1)) (fun v23 => g_X28_longest_l5 n x1 v22 v23 D k29)))))
    refine pr_ite (fun c8 => ?_) (fun c8 => ?_)
    exact hk29 _ _ 
    refine pr_ck (fun ha18 => ?_)
    refine pr_let (fun v22 => ?_)
    refine pr_let (fun v23 => ?_)
    exact ih _ _ _ _ 
theorem g_X28_longest_pr {x1 : Int} {D : ga_D} : ga_pr D (g_X28_longest x1 D) := by
  unfold g_X28_longest
  refine g_X28_longest_l5_pr (fun x2 D29 => ?_) _ _ _ _ _ 
  exact pr_some
theorem g_X28_stations_l26_pr  {k46 : Int → Int → ga_D → ga_S} (hk46 : ∀ (x1 x2 : Int) (D : ga_D), ga_pr D (k46 x1 x2 D)) : ∀ (n : Nat) (x1 x2 x4 : Int) (D : ga_D), ga_pr D (g_X28_stations_l26 n x1 x2 x4 D k46) := by
  intro n
  induction n with
  | zero => intro x1 x2 x4 D; exact pr_none
  | succ n ih =>
    intro x1 x2 x4 D
    show ga_pr D (if x1 ≤ x4 then (k46 x1 x2 D) else (ga_ck (0 ≤ x4 ∧ x4 < 4) (ga_let (ga_set D 4945 x4 0) (fun D39 => ga_let (aw_w32 (x4 + 1)) (fun v40 => g_X28_stations_l26 n x1 x2 v40 D39 k46)))))
    refine pr_ite (fun c29 => ?_) (fun c29 => ?_)
    exact hk46 _ _ _ 
    refine pr_ck (fun ha39 => ?_)
    refine pr_upd (ga_Pn K_4945 rfl) (fun D39 => ?_)
    refine pr_let (fun v40 => ?_)
    exact ih _ _ _ _ 
theorem g_X28_stations_l64_pr  {k93 : Int → Int → Int → ga_D → ga_S} (hk93 : ∀ (x1 x2 x4 : Int) (D : ga_D), ga_pr D (k93 x1 x2 x4 D)) : ∀ (n : Nat) (x1 x2 x4 x5 : Int) (D : ga_D), ga_pr D (g_X28_stations_l64 n x1 x2 x4 x5 D k93) := by
  intro n
  induction n with
  | zero => intro x1 x2 x4 x5 D; exact pr_none
  | succ n ih =>
    intro x1 x2 x4 x5 D
    show ga_pr D (if 10 ≤ x5 then (k93 x1 x2 x4 D) else (ga_ck (0 ≤ x5 ∧ x5 < 10) (ga_let (ga_set D 4944 x5 (-1)) (fun D78 => ga_ck (0 ≤ x5 ∧ x5 < 10) (ga_let (ga_set D78 4943 x5 (-1)) (fun D86 => ga_let (aw_w32 (x5 + 1)) (fun v87 => g_X28_stations_l64 n x1 x2 x4 v87 D86 k93)))))))
    refine pr_ite (fun c68 => ?_) (fun c68 => ?_)
    exact hk93 _ _ _ _ 
    refine pr_ck (fun ha78 => ?_)
    refine pr_upd (ga_Pn K_4944 rfl) (fun D78 => ?_)
    refine pr_ck (fun ha86 => ?_)
    refine pr_upd (ga_Pn K_4943 rfl) (fun D86 => ?_)
    refine pr_let (fun v87 => ?_)
    exact ih _ _ _ _ _ 
theorem g_X28_stations_j136_pr  {k93 : Int → Int → Int → ga_D → ga_S} (hk93 : ∀ (x1 x2 x4 : Int) (D : ga_D), ga_pr D (k93 x1 x2 x4 D)) (x1 x2 x4 : Int) (D : ga_D) : ga_pr D (g_X28_stations_j136 x1 x2 x4 D k93) := by
  unfold g_X28_stations_j136
  refine pr_ck (fun ha143 => ?_)
  refine pr_ck (fun ha146 => ?_)
  refine pr_upd (ga_Pn K_4944 rfl) (fun D146 => ?_)
  refine pr_ck (fun ha153 => ?_)
  refine pr_ite (fun c155 => ?_) (fun c155 => ?_)
  refine pr_ck (fun ha187 => ?_)
  refine pr_ck (fun ha189 => ?_)
  refine pr_ck (fun ha196 => ?_)
  refine pr_ck (fun ha202 => ?_)
  refine pr_upd (ga_Pn K_4945 rfl) (fun D202 => ?_)
  refine pr_bind (g_X28_isAllowed_pr) (fun r206 D206 => ?_)
  refine pr_ite (fun c209 => ?_) (fun c209 => ?_)
  exact hk93 _ _ _ _ 
  refine pr_ck (fun ha222 => ?_)
  refine pr_ck (fun ha223 => ?_)
  refine pr_ite (fun c226 => ?_) (fun c226 => ?_)
  exact hk93 _ _ _ _ 
  refine pr_bind (g_X28_nextOf_pr) (fun r232 D232 => ?_)
  refine pr_ite (fun c240 => ?_) (fun c240 => ?_)
  refine pr_bind (g_X28_longest_pr) (fun r252 D252 => ?_)
  refine pr_ite (fun c257 => ?_) (fun c257 => ?_)
  exact hk93 _ _ _ _ 
  refine pr_bind (g_X28_longest_pr) (fun r262 D262 => ?_)
  refine pr_ck (fun ha278 => ?_)
  refine pr_cpy (fun _ => ga_Pn K_4943 rfl) (fun D278 => ?_)
  exact hk93 _ _ _ _ 
  exact hk93 _ _ _ _ 
  refine pr_ck (fun ha165 => ?_)
  refine pr_upd (ga_Pn K_4944 rfl) (fun D165 => ?_)
  refine pr_bind (g_X28_lastOf_pr) (fun r169 D169 => ?_)
  exact hk93 _ _ _ _ 
theorem g_X28_stations_l93_pr  {k284 : Int → ga_D → ga_S} (hk284 : ∀ (x2 : Int) (D : ga_D), ga_pr D (k284 x2 D)) : ∀ (n : Nat) (x1 x2 x4 : Int) (D : ga_D), ga_pr D (g_X28_stations_l93 n x1 x2 x4 D k284) := by
  intro n
  induction n with
  | zero => intro x1 x2 x4 D; exact pr_none
  | succ n ih =>
    intro x1 x2 x4 D
    show ga_pr D (if x4 = (-1) then (k284 x2 D) else (ga_ck (0 ≤ x4 ∧ x4 < 10) (if D 4944 x4 = (-1) then (g_X28_stations_j136 x1 x2 x4 D (fun x1 x2 x4 D93 => g_X28_stations_l93 n x1 x2 x4 D93 k284)) else (ga_ck (0 ≤ x4 ∧ x4 < 10) (ga_ck (0 ≤ D 4944 x4 ∧ D 4944 x4 < 4) (ga_ck (0 ≤ x4 ∧ x4 < 10) (ga_ck (0 ≤ D 4944 x4 ∧ D 4944 x4 < 4) (ga_let (ga_set D 4945 (D 4944 x4) (aw_w64 ((D 4945 (D 4944 x4)) - (D ((x4 + 4946)) 3)))) (fun D135 => g_X28_stations_j136 x1 x2 x4 D135 (fun x1 x2 x4 D93 => g_X28_stations_l93 n x1 x2 x4 D93 k284))))))))))
    refine pr_ite (fun c96 => ?_) (fun c96 => ?_)
    exact hk284 _ _ 
    refine pr_ck (fun ha105 => ?_)
    refine pr_ite (fun c107 => ?_) (fun c107 => ?_)
    refine g_X28_stations_j136_pr (fun x1 x2 x4 D93 => ?_) _ _ _ _ 
    exact ih _ _ _ _ 
    refine pr_ck (fun ha120 => ?_)
    refine pr_ck (fun ha122 => ?_)
    refine pr_ck (fun ha129 => ?_)
    refine pr_ck (fun ha135 => ?_)
    refine pr_upd (ga_Pn K_4945 rfl) (fun D135 => ?_)
    refine g_X28_stations_j136_pr (fun x1 x2 x4 D93 => ?_) _ _ _ _ 
    exact ih _ _ _ _ 
theorem g_X28_stations_pr {x1 : Int} {D : ga_D} : ga_pr D (g_X28_stations x1 D) := by
  unfold g_X28_stations
  refine pr_ite (fun c4 => ?_) (fun c4 => ?_)
  exact pr_some
  refine pr_ite (fun c9 => ?_) (fun c9 => ?_)
  exact pr_some
  refine pr_ite (fun c14 => ?_) (fun c14 => ?_)
  refine g_X28_stations_l26_pr (fun x1 x2 D46 => ?_) _ _ _ _ _ 
  refine pr_bind (g_X28_nextOf_pr) (fun r48 D48 => ?_)
  refine pr_ite (fun c56 => ?_) (fun c56 => ?_)
  refine g_X28_stations_l64_pr (fun x1 x2 x4 D93 => ?_) _ _ _ _ _ _ 
  refine g_X28_stations_l93_pr (fun x2 D284 => ?_) _ _ _ _ _ 
  exact pr_some
  refine g_X28_stations_l64_pr (fun x1 x2 x4 D93 => ?_) _ _ _ _ _ _ 
  refine g_X28_stations_l93_pr (fun x2 D284 => ?_) _ _ _ _ _ 
  exact pr_some
  exact pr_some
theorem g_X28_station_pr {x1 : Int} {D : ga_D} : ga_pr D (g_X28_station x1 D) := by
  unfold g_X28_station
  refine pr_ite (fun c1 => ?_) (fun c1 => ?_)
  exact pr_some
  refine pr_ite (fun c7 => ?_) (fun c7 => ?_)
  exact pr_some
  refine pr_ck (fun ha15 => ?_)
  exact pr_some
