theorem g_X28_isPart_fr {x0 : Int} {D : ga_D} : ga_fr 4930 4956 D (g_X28_isPart x0 D) := by
  unfold g_X28_isPart
  refine fr_ite (fun c1 => ?_) (fun c1 => ?_)
  exact fr_some
  refine fr_ite (fun c7 => ?_) (fun c7 => ?_)
  exact fr_some
  exact fr_some
theorem g_X29_isWay_fr {x0 : Int} {D : ga_D} : ga_fr 4930 4956 D (g_X29_isWay x0 D) := by
  unfold g_X29_isWay
  refine fr_ite (fun c1 => ?_) (fun c1 => ?_)
  exact fr_some
  refine fr_ite (fun c7 => ?_) (fun c7 => ?_)
  exact fr_some
  exact fr_some
theorem g_X28_isIn_fr {x0 x2 x4 : Int} {D : ga_D} : ga_fr 4930 4956 D (g_X28_isIn x0 x2 x4 D) := by
  unfold g_X28_isIn
  refine fr_ite (fun c3 => ?_) (fun c3 => ?_)
  exact fr_some
  refine fr_ite (fun c10 => ?_) (fun c10 => ?_)
  exact fr_some
  exact fr_some
theorem g_X28_act_j21_fr  (x1 x2 x3 x4 : Int) (D : ga_D) : ga_fr 4930 4956 D (g_X28_act_j21 x1 x2 x3 x4 D) := by
  unfold g_X28_act_j21
  refine fr_bind (g_X29_isWay_fr) (fun r22 D22 => ?_)
  refine fr_ite (fun c25 => ?_) (fun c25 => ?_)
  exact fr_some
  refine fr_bind (g_X29_isWay_fr) (fun r29 D29 => ?_)
  refine fr_ite (fun c32 => ?_) (fun c32 => ?_)
  exact fr_some
  refine fr_bind (g_X28_isIn_fr) (fun r41 D41 => ?_)
  refine fr_ite (fun c44 => ?_) (fun c44 => ?_)
  refine fr_ck (fun ha57 => ?_)
  refine fr_upd (by have := rg_27_0 (KE_4931 ha57.1 ha57.2); omega) (fun D63 => ?_)
  refine fr_upd (by have := rg_27_0 (KE_4931 ha57.1 ha57.2); omega) (fun D69 => ?_)
  refine fr_upd (by have := rg_27_0 (KE_4931 ha57.1 ha57.2); omega) (fun D75 => ?_)
  refine fr_upd (by have := rg_27_0 (KE_4931 ha57.1 ha57.2); omega) (fun D83 => ?_)
  refine fr_upd (by decide) (fun D88 => ?_)
  refine fr_upd (by decide) (fun D99 => ?_)
  exact fr_some
  exact fr_some
theorem g_X28_act_fr {x1 x2 x3 x4 : Int} {D : ga_D} : ga_fr 4930 4956 D (g_X28_act x1 x2 x3 x4 D) := by
  unfold g_X28_act
  refine fr_ite (fun c6 => ?_) (fun c6 => ?_)
  exact fr_some
  refine fr_ite (fun c11 => ?_) (fun c11 => ?_)
  refine g_X28_act_j21_fr _ _ _ _ _ 
  refine fr_bind (g_X28_isPart_fr) (fun r15 D15 => ?_)
  refine fr_ite (fun c18 => ?_) (fun c18 => ?_)
  exact fr_some
  refine g_X28_act_j21_fr _ _ _ _ _ 
theorem g_X28_isAct_fr {x1 : Int} {D : ga_D} : ga_fr 4930 4956 D (g_X28_isAct x1 D) := by
  unfold g_X28_isAct
  refine fr_ite (fun c1 => ?_) (fun c1 => ?_)
  exact fr_some
  refine fr_ite (fun c9 => ?_) (fun c9 => ?_)
  exact fr_some
  exact fr_some
theorem g_X28_before_j90_fr  {k57 : Int → Int → Int → ga_D → ga_S} (hk57 : ∀ (x2 x3 x4 : Int) (D : ga_D), ga_fr 4930 4956 D (k57 x2 x3 x4 D)) (x2 x3 x4 : Int) (D : ga_D) : ga_fr 4930 4956 D (g_X28_before_j90 x2 x3 x4 D k57) := by
  unfold g_X28_before_j90
  refine fr_ck (fun ha96 => ?_)
  refine fr_upd (by have := rg_27_0 (KE_4931 ha96.1 ha96.2); omega) (fun D103 => ?_)
  refine fr_let (fun v106 => ?_)
  exact hk57 _ _ _ _ 
theorem g_X28_before_l57_fr  {k112 : ga_D → ga_S} (hk112 : ∀ (D : ga_D), ga_fr 4930 4956 D (k112 D)) : ∀ (n : Nat) (x2 x3 x4 : Int) (D : ga_D), ga_fr 4930 4956 D (g_X28_before_l57 n x2 x3 x4 D k112) := by
  intro n
  induction n with
  | zero => intro x2 x3 x4 D; exact fr_none
  | succ n ih =>
    intro x2 x3 x4 D
    show ga_fr 4930 4956 D (if D 4930 1 ≤ x4 then (k112 D) else (if x4 = x2 then (g_X28_before_j90 x2 x3 x4 D (fun x2 x3 x4 D57 => g_X28_before_l57 n x2 x3 x4 D57 k112)) else (ga_ck (0 ≤ x4 ∧ x4 < 10) (if aw_and (aw_shr (D ((x4 + 4946)) 5) x2) 1 ≠ 1 then (ga_let (aw_w32 (x4 + 1)) (fun v106 => g_X28_before_l57 n x2 x3 v106 D k112)) else (g_X28_before_j90 x2 x3 x4 D (fun x2 x3 x4 D57 => g_X28_before_l57 n x2 x3 x4 D57 k112))))))
    refine fr_ite (fun c63 => ?_) (fun c63 => ?_)
    exact hk112 _ 
    refine fr_ite (fun c69 => ?_) (fun c69 => ?_)
    refine g_X28_before_j90_fr (fun x2 x3 x4 D57 => ?_) _ _ _ _ 
    exact ih _ _ _ _ 
    refine fr_ck (fun ha78 => ?_)
    refine fr_ite (fun c87 => ?_) (fun c87 => ?_)
    refine fr_let (fun v106 => ?_)
    exact ih _ _ _ _ 
    refine g_X28_before_j90_fr (fun x2 x3 x4 D57 => ?_) _ _ _ _ 
    exact ih _ _ _ _ 
theorem g_X28_before_fr {x1 x2 : Int} {D : ga_D} : ga_fr 4930 4956 D (g_X28_before x1 x2 D) := by
  unfold g_X28_before
  refine fr_bind (g_X28_isAct_fr) (fun r2 D2 => ?_)
  refine fr_ite (fun c5 => ?_) (fun c5 => ?_)
  exact fr_some
  refine fr_bind (g_X28_isAct_fr) (fun r10 D10 => ?_)
  refine fr_ite (fun c13 => ?_) (fun c13 => ?_)
  exact fr_some
  refine fr_ite (fun c18 => ?_) (fun c18 => ?_)
  exact fr_some
  refine fr_ck (fun ha26 => ?_)
  refine fr_ite (fun c35 => ?_) (fun c35 => ?_)
  refine fr_ck (fun ha45 => ?_)
  refine fr_let (fun v53 => ?_)
  refine g_X28_before_l57_fr (fun D112 => ?_) _ _ _ _ _ 
  refine fr_upd (by decide) (fun D114 => ?_)
  exact fr_some
  exact fr_some
theorem g_X29_tell_fr {x0 x1 x2 x3 : Int} {D : ga_D} : ga_fr 4930 4956 D (g_X29_tell x0 x1 x2 x3 D) := by
  unfold g_X29_tell
  refine fr_bind (g_X29_isWay_fr) (fun r1 D1 => ?_)
  refine fr_ite (fun c4 => ?_) (fun c4 => ?_)
  exact fr_some
  refine fr_bind (g_X29_isWay_fr) (fun r8 D8 => ?_)
  refine fr_ite (fun c11 => ?_) (fun c11 => ?_)
  exact fr_some
  refine fr_ite (fun c16 => ?_) (fun c16 => ?_)
  exact fr_some
  refine fr_ite (fun c22 => ?_) (fun c22 => ?_)
  exact fr_some
  refine fr_ite (fun c30 => ?_) (fun c30 => ?_)
  refine fr_ck (fun hk36_0 => ?_)
  refine fr_ck (fun ha47 => ?_)
  refine fr_upd (rg_26_1 hk36_0) (fun D47 => ?_)
  exact fr_some
  exact fr_some
theorem g_X28_change_fr {x1 x2 x3 : Int} {D : ga_D} : ga_fr 4930 4956 D (g_X28_change x1 x2 x3 D) := by
  unfold g_X28_change
  refine fr_bind (g_X29_tell_fr) (fun r7 D7 => ?_)
  refine fr_ite (fun c19 => ?_) (fun c19 => ?_)
  refine fr_ck (fun hp28 => ?_)
  refine fr_upd (by decide) (fun D28 => ?_)
  refine fr_ck (fun hr33 => ?_)
  exact fr_some
  refine fr_ck (fun hp28 => ?_)
  refine fr_upd (by decide) (fun D28 => ?_)
  refine fr_ck (fun hr33 => ?_)
  exact fr_some
theorem g_X28_turn_fr {x1 x2 x3 : Int} {D : ga_D} : ga_fr 4930 4956 D (g_X28_turn x1 x2 x3 D) := by
  unfold g_X28_turn
  refine fr_bind (g_X29_tell_fr) (fun r7 D7 => ?_)
  refine fr_ite (fun c19 => ?_) (fun c19 => ?_)
  refine fr_ck (fun hp28 => ?_)
  refine fr_upd (by decide) (fun D28 => ?_)
  refine fr_ck (fun hr33 => ?_)
  exact fr_some
  refine fr_ck (fun hp28 => ?_)
  refine fr_upd (by decide) (fun D28 => ?_)
  refine fr_ck (fun hr33 => ?_)
  exact fr_some
theorem g_X28_worth_fr {x1 x2 : Int} {D : ga_D} : ga_fr 4930 4956 D (g_X28_worth x1 x2 D) := by
  unfold g_X28_worth
  refine fr_bind (g_X28_isPart_fr) (fun r1 D1 => ?_)
  refine fr_ite (fun c4 => ?_) (fun c4 => ?_)
  exact fr_some
  refine fr_bind (g_X28_isIn_fr) (fun r14 D14 => ?_)
  refine fr_ite (fun c17 => ?_) (fun c17 => ?_)
  refine fr_ck (fun ha29 => ?_)
  refine fr_upd (by decide) (fun D29 => ?_)
  refine fr_upd (by decide) (fun D32 => ?_)
  exact fr_some
  exact fr_some
theorem g_X28_restOf_l2_fr  {k20 : Int → ga_D → ga_S} {k28 : ga_D → ga_S} (hk20 : ∀ (x2 : Int) (D : ga_D), ga_fr 4930 4956 D (k20 x2 D)) (hk28 : ∀ (D : ga_D), ga_fr 4930 4956 D (k28 D)) : ∀ (n : Nat) (x1 x2 : Int) (D : ga_D), ga_fr 4930 4956 D (g_X28_restOf_l2 n x1 x2 D k20 k28) := by
  intro n
  induction n with
  | zero => intro x1 x2 D; exact fr_none
  | succ n ih =>
    intro x1 x2 D
    show ga_fr 4930 4956 D (if D 4930 8 ≤ x2 then (k28 D) else (ga_ck (0 ≤ x2 ∧ x2 < 16) (if D 4938 x2 ≠ x1 then (ga_let (aw_w32 (x2 + 1)) (fun v22 => g_X28_restOf_l2 n x1 v22 D k20 k28)) else (k20 x2 D))))
    refine fr_ite (fun c7 => ?_) (fun c7 => ?_)
    exact hk28 _ 
    refine fr_ck (fun ha15 => ?_)
    refine fr_ite (fun c17 => ?_) (fun c17 => ?_)
    refine fr_let (fun v22 => ?_)
    exact ih _ _ _ 
    exact hk20 _ _ 
theorem g_X28_restOf_fr {x1 : Int} {D : ga_D} : ga_fr 4930 4956 D (g_X28_restOf x1 D) := by
  unfold g_X28_restOf
  refine g_X28_restOf_l2_fr (fun x2 D20 => ?_) (fun D28 => ?_) _ _ _ _ 
  exact fr_some
  exact fr_some
theorem g_X28_rest_j68_fr  (x1 x3 x5 : Int) (D : ga_D) : ga_fr 4930 4956 D (g_X28_rest_j68 x1 x3 x5 D) := by
  unfold g_X28_rest_j68
  refine fr_ck (fun ha76 => ?_)
  refine fr_upd (by decide) (fun D76 => ?_)
  refine fr_ck (fun ha85 => ?_)
  refine fr_upd (by decide) (fun D85 => ?_)
  refine fr_upd (by decide) (fun D88 => ?_)
  exact fr_some
theorem g_X28_rest_j50_fr  (x1 x3 x5 : Int) (D : ga_D) : ga_fr 4930 4956 D (g_X28_rest_j50 x1 x3 x5 D) := by
  unfold g_X28_rest_j50
  refine fr_ite (fun c52 => ?_) (fun c52 => ?_)
  refine g_X28_rest_j68_fr _ _ _ _ 
  refine fr_upd (by decide) (fun D63 => ?_)
  refine fr_let (fun v66 => ?_)
  refine g_X28_rest_j68_fr _ _ _ _ 
theorem g_X28_rest_fr {x1 x3 : Int} {D : ga_D} : ga_fr 4930 4956 D (g_X28_rest x1 x3 D) := by
  unfold g_X28_rest
  refine fr_bind (g_X28_isIn_fr) (fun r5 D5 => ?_)
  refine fr_ite (fun c8 => ?_) (fun c8 => ?_)
  exact fr_some
  refine fr_bind (g_X28_isIn_fr) (fun r18 D18 => ?_)
  refine fr_ite (fun c21 => ?_) (fun c21 => ?_)
  refine fr_bind (g_X28_restOf_fr) (fun r29 D29 => ?_)
  refine fr_ite (fun c36 => ?_) (fun c36 => ?_)
  refine g_X28_rest_j50_fr _ _ _ _ 
  refine fr_ite (fun c45 => ?_) (fun c45 => ?_)
  refine g_X28_rest_j50_fr _ _ _ _ 
  exact fr_some
  exact fr_some
theorem g_X28_breaks_fr {x1 : Int} {D : ga_D} : ga_fr 4930 4956 D (g_X28_breaks x1 D) := by
  unfold g_X28_breaks
  refine fr_bind (g_X28_isAct_fr) (fun r2 D2 => ?_)
  refine fr_ite (fun c5 => ?_) (fun c5 => ?_)
  exact fr_some
  refine fr_ck (fun ha13 => ?_)
  refine fr_ite (fun c17 => ?_) (fun c17 => ?_)
  refine fr_ck (fun ha27 => ?_)
  refine fr_upd (by have := rg_27_0 (KE_4931 ha27.1 ha27.2); omega) (fun D29 => ?_)
  refine fr_upd (by decide) (fun D34 => ?_)
  exact fr_some
  exact fr_some
theorem g_X28_sure_fr {x1 x2 x4 : Int} {D : ga_D} : ga_fr 4930 4956 D (g_X28_sure x1 x2 x4 D) := by
  unfold g_X28_sure
  refine fr_bind (g_X28_isPart_fr) (fun r1 D1 => ?_)
  refine fr_ite (fun c4 => ?_) (fun c4 => ?_)
  exact fr_some
  refine fr_bind (g_X28_isIn_fr) (fun r13 D13 => ?_)
  refine fr_ite (fun c16 => ?_) (fun c16 => ?_)
  exact fr_some
  refine fr_bind (g_X28_isIn_fr) (fun r23 D23 => ?_)
  refine fr_ite (fun c26 => ?_) (fun c26 => ?_)
  refine fr_ck (fun hz41 => ?_)
  refine fr_ck (fun ha45 => ?_)
  refine fr_upd (by decide) (fun D45 => ?_)
  refine fr_upd (by decide) (fun D48 => ?_)
  exact fr_some
  exact fr_some
theorem g_X28_isClosed_l4_fr  {k52 : Int → ga_D → ga_S} (hk52 : ∀ (x2 : Int) (D : ga_D), ga_fr 4930 4956 D (k52 x2 D)) : ∀ (n : Nat) (x1 x2 x3 : Int) (D : ga_D), ga_fr 4930 4956 D (g_X28_isClosed_l4 n x1 x2 x3 D k52) := by
  intro n
  induction n with
  | zero => intro x1 x2 x3 D; exact fr_none
  | succ n ih =>
    intro x1 x2 x3 D
    show ga_fr 4930 4956 D (if D 4930 1 ≤ x3 then (k52 x2 D) else (if x2 = 0 then (k52 x2 D) else (if aw_and (aw_shr x1 x3) 1 = 0 then (ga_let (aw_w32 (x3 + 1)) (fun v46 => g_X28_isClosed_l4 n x1 1 v46 D k52)) else (ga_ck (0 ≤ x3 ∧ x3 < 10) (if aw_and (D ((x3 + 4946)) 5) (aw_xor x1 (-1)) ≠ 0 then (ga_let (aw_w32 (x3 + 1)) (fun v46 => g_X28_isClosed_l4 n x1 0 v46 D k52)) else (ga_let (aw_w32 (x3 + 1)) (fun v46 => g_X28_isClosed_l4 n x1 1 v46 D k52)))))))
    refine fr_ite (fun c9 => ?_) (fun c9 => ?_)
    exact hk52 _ _ 
    refine fr_ite (fun c13 => ?_) (fun c13 => ?_)
    exact hk52 _ _ 
    refine fr_ite (fun c21 => ?_) (fun c21 => ?_)
    refine fr_let (fun v46 => ?_)
    exact ih _ _ _ _ 
    refine fr_ck (fun ha29 => ?_)
    refine fr_ite (fun c37 => ?_) (fun c37 => ?_)
    refine fr_let (fun v46 => ?_)
    exact ih _ _ _ _ 
    refine fr_let (fun v46 => ?_)
    exact ih _ _ _ _ 
theorem g_X28_isClosed_fr {x1 : Int} {D : ga_D} : ga_fr 4930 4956 D (g_X28_isClosed x1 D) := by
  unfold g_X28_isClosed
  refine g_X28_isClosed_l4_fr (fun x2 D52 => ?_) _ _ _ _ _ 
  refine fr_ck (fun hr53 => ?_)
  exact fr_some
theorem g_X28_isLast_fr {x1 x2 : Int} {D : ga_D} : ga_fr 4930 4956 D (g_X28_isLast x1 x2 D) := by
  unfold g_X28_isLast
  refine fr_ite (fun c6 => ?_) (fun c6 => ?_)
  exact fr_some
  refine fr_bind (g_X28_isClosed_fr) (fun r15 D15 => ?_)
  refine fr_ite (fun c18 => ?_) (fun c18 => ?_)
  exact fr_some
  exact fr_some
theorem g_X28_states_l17_fr  {k58 : Int → Int → ga_D → ga_S} (hk58 : ∀ (x1 x3 : Int) (D : ga_D), ga_fr 4930 4956 D (k58 x1 x3 D)) : ∀ (n : Nat) (x1 x3 x4 : Int) (D : ga_D), ga_fr 4930 4956 D (g_X28_states_l17 n x1 x3 x4 D k58) := by
  intro n
  induction n with
  | zero => intro x1 x3 x4 D; exact fr_none
  | succ n ih =>
    intro x1 x3 x4 D
    show ga_fr 4930 4956 D (if D 4930 1 ≤ x4 then (k58 x1 x3 D) else (ga_bind (g_X28_isClosed x3 D) (fun r28 D28 => if r28 = 0 then (k58 x1 x3 D28) else (ga_bind (g_X28_isLast x3 x4 D28) (fun r39 D39 => if r39 = 0 then (ga_let (aw_w64 (x1 + 0)) (fun v51 => ga_let (aw_w32 (x4 + 1)) (fun v52 => g_X28_states_l17 n v51 x3 v52 D39 k58))) else (ga_let (aw_w64 (x1 + 1)) (fun v51 => ga_let (aw_w32 (x4 + 1)) (fun v52 => g_X28_states_l17 n v51 x3 v52 D39 k58))))))))
    refine fr_ite (fun c23 => ?_) (fun c23 => ?_)
    exact hk58 _ _ _ 
    refine fr_bind (g_X28_isClosed_fr) (fun r28 D28 => ?_)
    refine fr_ite (fun c31 => ?_) (fun c31 => ?_)
    exact hk58 _ _ _ 
    refine fr_bind (g_X28_isLast_fr) (fun r39 D39 => ?_)
    refine fr_ite (fun c42 => ?_) (fun c42 => ?_)
    refine fr_let (fun v51 => ?_)
    refine fr_let (fun v52 => ?_)
    exact ih _ _ _ _ 
    refine fr_let (fun v51 => ?_)
    refine fr_let (fun v52 => ?_)
    exact ih _ _ _ _ 
theorem g_X28_states_l4_fr  {k64 : Int → ga_D → ga_S} (hk64 : ∀ (x1 : Int) (D : ga_D), ga_fr 4930 4956 D (k64 x1 D)) : ∀ (n : Nat) (x1 x3 : Int) (D : ga_D), ga_fr 4930 4956 D (g_X28_states_l4 n x1 x3 D k64) := by
  intro n
  induction n with
  | zero => intro x1 x3 D; exact fr_none
  | succ n ih =>
    intro x1 x3 D
    show ga_fr 4930 4956 D (if aw_shl 1 (D 4930 1) ≤ x3 then (k64 x1 D) else (g_X28_states_l17 aw_fu x1 x3 0 D (fun x1 x3 D58 => ga_let (aw_w32 (x3 + 1)) (fun v58 => g_X28_states_l4 n x1 v58 D58 k64))))
    refine fr_ite (fun c11 => ?_) (fun c11 => ?_)
    exact hk64 _ _ 
    refine g_X28_states_l17_fr (fun x1 x3 D58 => ?_) _ _ _ _ _ 
    refine fr_let (fun v58 => ?_)
    exact ih _ _ _ 
theorem g_X28_states_fr {D : ga_D} : ga_fr 4930 4956 D (g_X28_states D) := by
  unfold g_X28_states
  refine g_X28_states_l4_fr (fun x1 D64 => ?_) _ _ _ _ 
  exact fr_some
theorem g_X28_freeBy_l4_fr  {k57 : Int → ga_D → ga_S} (hk57 : ∀ (x2 : Int) (D : ga_D), ga_fr 4930 4956 D (k57 x2 D)) : ∀ (n : Nat) (x1 x2 x3 : Int) (D : ga_D), ga_fr 4930 4956 D (g_X28_freeBy_l4 n x1 x2 x3 D k57) := by
  intro n
  induction n with
  | zero => intro x1 x2 x3 D; exact fr_none
  | succ n ih =>
    intro x1 x2 x3 D
    show ga_fr 4930 4956 D (if D 4930 1 ≤ x3 then (k57 x2 D) else (if aw_and (aw_shr x1 x3) 1 ≠ 1 then (ga_let (aw_or x2 0) (fun v50 => ga_let (aw_w32 (x3 + 1)) (fun v51 => g_X28_freeBy_l4 n x1 v50 v51 D k57))) else (ga_ck (0 ≤ x3 ∧ x3 < 10) (if D ((x3 + 4946)) 0 < 0 then (ga_let (aw_or x2 0) (fun v50 => ga_let (aw_w32 (x3 + 1)) (fun v51 => g_X28_freeBy_l4 n x1 v50 v51 D k57))) else (ga_ck (0 ≤ x3 ∧ x3 < 10) (ga_let (aw_or x2 (aw_shl 1 (D ((x3 + 4946)) 0))) (fun v50 => ga_let (aw_w32 (x3 + 1)) (fun v51 => g_X28_freeBy_l4 n x1 v50 v51 D k57))))))))
    refine fr_ite (fun c9 => ?_) (fun c9 => ?_)
    exact hk57 _ _ 
    refine fr_ite (fun c19 => ?_) (fun c19 => ?_)
    refine fr_let (fun v50 => ?_)
    refine fr_let (fun v51 => ?_)
    exact ih _ _ _ _ 
    refine fr_ck (fun ha27 => ?_)
    refine fr_ite (fun c31 => ?_) (fun c31 => ?_)
    refine fr_let (fun v50 => ?_)
    refine fr_let (fun v51 => ?_)
    exact ih _ _ _ _ 
    refine fr_ck (fun ha40 => ?_)
    refine fr_let (fun v50 => ?_)
    refine fr_let (fun v51 => ?_)
    exact ih _ _ _ _ 
theorem g_X28_freeBy_fr {x1 : Int} {D : ga_D} : ga_fr 4930 4956 D (g_X28_freeBy x1 D) := by
  unfold g_X28_freeBy
  refine g_X28_freeBy_l4_fr (fun x2 D57 => ?_) _ _ _ _ _ 
  exact fr_some
theorem g_X28_brokenBy_l4_fr  {k69 : Int → ga_D → ga_S} (hk69 : ∀ (x2 : Int) (D : ga_D), ga_fr 4930 4956 D (k69 x2 D)) : ∀ (n : Nat) (x1 x2 x3 : Int) (D : ga_D), ga_fr 4930 4956 D (g_X28_brokenBy_l4 n x1 x2 x3 D k69) := by
  intro n
  induction n with
  | zero => intro x1 x2 x3 D; exact fr_none
  | succ n ih =>
    intro x1 x2 x3 D
    show ga_fr 4930 4956 D (if D 4930 1 ≤ x3 then (k69 x2 D) else (if aw_and (aw_shr x1 x3) 1 ≠ 1 then (ga_let (aw_or x2 0) (fun v62 => ga_let (aw_w32 (x3 + 1)) (fun v63 => g_X28_brokenBy_l4 n x1 v62 v63 D k69))) else (ga_ck (0 ≤ x3 ∧ x3 < 10) (if D ((x3 + 4946)) 4 = 0 then (ga_let (aw_or x2 0) (fun v62 => ga_let (aw_w32 (x3 + 1)) (fun v63 => g_X28_brokenBy_l4 n x1 v62 v63 D k69))) else (ga_ck (0 ≤ x3 ∧ x3 < 10) (if D ((x3 + 4946)) 0 < 0 then (ga_let (aw_or x2 0) (fun v62 => ga_let (aw_w32 (x3 + 1)) (fun v63 => g_X28_brokenBy_l4 n x1 v62 v63 D k69))) else (ga_ck (0 ≤ x3 ∧ x3 < 10) (ga_let (aw_or x2 (aw_shl 1 (D ((x3 + 4946)) 0))) (fun v62 => ga_let (aw_w32 (x3 + 1)) (fun v63 => g_X28_brokenBy_l4 n x1 v62 v63 D k69))))))))))
    refine fr_ite (fun c9 => ?_) (fun c9 => ?_)
    exact hk69 _ _ 
    refine fr_ite (fun c19 => ?_) (fun c19 => ?_)
    refine fr_let (fun v62 => ?_)
    refine fr_let (fun v63 => ?_)
    exact ih _ _ _ _ 
    refine fr_ck (fun ha27 => ?_)
    refine fr_ite (fun c31 => ?_) (fun c31 => ?_)
    refine fr_let (fun v62 => ?_)
    refine fr_let (fun v63 => ?_)
    exact ih _ _ _ _ 
    refine fr_ck (fun ha39 => ?_)
    refine fr_ite (fun c43 => ?_) (fun c43 => ?_)
    refine fr_let (fun v62 => ?_)
    refine fr_let (fun v63 => ?_)
    exact ih _ _ _ _ 
    refine fr_ck (fun ha52 => ?_)
    refine fr_let (fun v62 => ?_)
    refine fr_let (fun v63 => ?_)
    exact ih _ _ _ _ 
theorem g_X28_brokenBy_fr {x1 : Int} {D : ga_D} : ga_fr 4930 4956 D (g_X28_brokenBy x1 D) := by
  unfold g_X28_brokenBy
  refine g_X28_brokenBy_l4_fr (fun x2 D69 => ?_) _ _ _ _ _ 
  exact fr_some
theorem g_X28_worthOf_fr {x1 : Int} {D : ga_D} : ga_fr 4930 4956 D (g_X28_worthOf x1 D) := by
  unfold g_X28_worthOf
  refine fr_ck (fun ha5 => ?_)
  refine fr_ck (fun ha12 => ?_)
  exact fr_some
theorem g_X28_counts_l22_fr  {k60 : Int → Int → ga_D → ga_S} (hk60 : ∀ (x2 x4 : Int) (D : ga_D), ga_fr 4930 4956 D (k60 x2 x4 D)) : ∀ (n : Nat) (x2 x3 x4 x6 : Int) (D : ga_D), ga_fr 4930 4956 D (g_X28_counts_l22 n x2 x3 x4 x6 D k60) := by
  intro n
  induction n with
  | zero => intro x2 x3 x4 x6 D; exact fr_none
  | succ n ih =>
    intro x2 x3 x4 x6 D
    show ga_fr 4930 4956 D (if 12 ≤ x6 then (k60 x2 x4 D) else (if aw_and (aw_shr x3 x6) 1 ≠ 1 then (ga_let (aw_w64 (x4 + 0)) (fun v52 => ga_let (aw_w32 (x6 + 1)) (fun v54 => g_X28_counts_l22 n x2 x3 v52 v54 D k60))) else (ga_bind (g_X28_worthOf x6 D) (fun r44 D44 => ga_let (aw_w64 (x4 + r44)) (fun v52 => ga_let (aw_w32 (x6 + 1)) (fun v54 => g_X28_counts_l22 n x2 x3 v52 v54 D44 k60))))))
    refine fr_ite (fun c26 => ?_) (fun c26 => ?_)
    exact hk60 _ _ _ 
    refine fr_ite (fun c38 => ?_) (fun c38 => ?_)
    refine fr_let (fun v52 => ?_)
    refine fr_let (fun v54 => ?_)
    exact ih _ _ _ _ _ 
    refine fr_bind (g_X28_worthOf_fr) (fun r44 D44 => ?_)
    refine fr_let (fun v52 => ?_)
    refine fr_let (fun v54 => ?_)
    exact ih _ _ _ _ _ 
theorem g_X28_counts_fr {x1 : Int} {D : ga_D} : ga_fr 4930 4956 D (g_X28_counts x1 D) := by
  unfold g_X28_counts
  refine fr_bind (g_X28_freeBy_fr) (fun r2 D2 => ?_)
  refine fr_bind (g_X28_brokenBy_fr) (fun r9 D9 => ?_)
  refine fr_let (fun v15 => ?_)
  refine g_X28_counts_l22_fr (fun x2 x4 D60 => ?_) _ _ _ _ _ _ 
  refine fr_bind (g_X28_restOf_fr) (fun r68 D68 => ?_)
  refine fr_ite (fun c75 => ?_) (fun c75 => ?_)
  refine fr_ck (fun ha94 => ?_)
  exact fr_some
  exact fr_some
theorem g_X28_at_fr {x0 x1 : Int} {D : ga_D} : ga_fr 4930 4956 D (g_X28_at x0 x1 D) := by
  unfold g_X28_at
  refine fr_ite (fun c6 => ?_) (fun c6 => ?_)
  exact fr_some
  exact fr_some
theorem g_X28_mayCome_fr {x1 x2 : Int} {D : ga_D} : ga_fr 4930 4956 D (g_X28_mayCome x1 x2 D) := by
  unfold g_X28_mayCome
  refine fr_ite (fun c5 => ?_) (fun c5 => ?_)
  exact fr_some
  refine fr_ck (fun ha13 => ?_)
  refine fr_ite (fun c21 => ?_) (fun c21 => ?_)
  exact fr_some
  exact fr_some
theorem g_X29_cost_fr {x0 x1 x2 : Int} {D : ga_D} : ga_fr 4930 4956 D (g_X29_cost x0 x1 x2 D) := by
  unfold g_X29_cost
  refine fr_ck (fun hk1_0 => ?_)
  refine fr_ck (fun ha10 => ?_)
  exact fr_some
theorem g_X28_cost_fr {x1 x2 : Int} {D : ga_D} : ga_fr 4930 4956 D (g_X28_cost x1 x2 D) := by
  unfold g_X28_cost
  refine fr_ck (fun ha5 => ?_)
  refine fr_let (fun v10 => ?_)
  refine fr_ite (fun c13 => ?_) (fun c13 => ?_)
  exact fr_some
  refine fr_ck (fun ha26 => ?_)
  refine fr_ck (fun ha35 => ?_)
  refine fr_bind (g_X29_cost_fr) (fun r39 D39 => ?_)
  refine fr_ck (fun ha51 => ?_)
  refine fr_ck (fun ha60 => ?_)
  refine fr_bind (g_X29_cost_fr) (fun r64 D64 => ?_)
  refine fr_let (fun v70 => ?_)
  exact fr_some
theorem g_X28_goOn_l7_fr  {k61 : Int → ga_D → ga_S} (hk61 : ∀ (x3 : Int) (D : ga_D), ga_fr 4930 4956 D (k61 x3 D)) : ∀ (n : Nat) (x1 x2 x3 x5 : Int) (D : ga_D), ga_fr 4930 4956 D (g_X28_goOn_l7 n x1 x2 x3 x5 D k61) := by
  intro n
  induction n with
  | zero => intro x1 x2 x3 x5 D; exact fr_none
  | succ n ih =>
    intro x1 x2 x3 x5 D
    show ga_fr 4930 4956 D (if D 4930 1 ≤ x5 then (k61 x3 D) else (ga_bind (g_X28_mayCome x1 x5 D) (fun r20 D20 => if r20 = 0 then (ga_let (aw_w32 (x5 + 1)) (fun v55 => g_X28_goOn_l7 n x1 x2 x3 v55 D20 k61)) else (ga_bind (g_X28_at (aw_or x1 (aw_shl 1 x5)) x5 D20) (fun r39 D39 => ga_ck (0 ≤ r39 ∧ r39 < 11264) (ga_bind (g_X28_cost x2 x5 D39) (fun r47 D47 => ga_let (aw_max x3 (aw_w64 ((D39 4940 r39) - r47))) (fun v54 => ga_let (aw_w32 (x5 + 1)) (fun v55 => g_X28_goOn_l7 n x1 x2 v54 v55 D47 k61)))))))))
    refine fr_ite (fun c13 => ?_) (fun c13 => ?_)
    exact hk61 _ _ 
    refine fr_bind (g_X28_mayCome_fr) (fun r20 D20 => ?_)
    refine fr_ite (fun c23 => ?_) (fun c23 => ?_)
    refine fr_let (fun v55 => ?_)
    exact ih _ _ _ _ _ 
    refine fr_bind (g_X28_at_fr) (fun r39 D39 => ?_)
    refine fr_ck (fun ha42 => ?_)
    refine fr_bind (g_X28_cost_fr) (fun r47 D47 => ?_)
    refine fr_let (fun v54 => ?_)
    refine fr_let (fun v55 => ?_)
    exact ih _ _ _ _ _ 
theorem g_X28_goOn_fr {x1 x2 : Int} {D : ga_D} : ga_fr 4930 4956 D (g_X28_goOn x1 x2 D) := by
  unfold g_X28_goOn
  refine g_X28_goOn_l7_fr (fun x3 D61 => ?_) _ _ _ _ _ _ 
  exact fr_some
theorem g_X28_fill_j71_fr  {k38 : Int → Int → Int → ga_D → ga_S} (hk38 : ∀ (x1 x2 x4 : Int) (D : ga_D), ga_fr 4930 4956 D (k38 x1 x2 x4 D)) (x1 x2 x4 : Int) (D : ga_D) : ga_fr 4930 4956 D (g_X28_fill_j71 x1 x2 x4 D k38) := by
  unfold g_X28_fill_j71
  refine fr_bind (g_X28_at_fr) (fun r78 D78 => ?_)
  refine fr_bind (g_X28_goOn_fr) (fun r86 D86 => ?_)
  refine fr_ck (fun ha92 => ?_)
  refine fr_upd (by decide) (fun D92 => ?_)
  refine fr_let (fun v93 => ?_)
  exact hk38 _ _ _ _ 
theorem g_X28_fill_j52_fr  {k38 : Int → Int → Int → ga_D → ga_S} {k99 : Int → ga_D → ga_S} (hk38 : ∀ (x1 x2 x4 : Int) (D : ga_D), ga_fr 4930 4956 D (k38 x1 x2 x4 D)) (hk99 : ∀ (x1 : Int) (D : ga_D), ga_fr 4930 4956 D (k99 x1 D)) (x1 x2 x4 s0 s1 : Int) (D : ga_D) : ga_fr 4930 4956 D (g_X28_fill_j52 x1 x2 x4 s0 s1 D k38 k99) := by
  unfold g_X28_fill_j52
  refine fr_ite (fun c52 => ?_) (fun c52 => ?_)
  exact hk99 _ _ 
  refine fr_ite (fun c58 => ?_) (fun c58 => ?_)
  refine g_X28_fill_j71_fr (fun x1 x2 x4 D38 => ?_) _ _ _ _ 
  exact hk38 _ _ _ _ 
  refine fr_bind (g_X28_isLast_fr) (fun r65 D65 => ?_)
  refine fr_ite (fun c68 => ?_) (fun c68 => ?_)
  refine fr_let (fun v93 => ?_)
  exact hk38 _ _ _ _ 
  refine g_X28_fill_j71_fr (fun x1 x2 x4 D38 => ?_) _ _ _ _ 
  exact hk38 _ _ _ _ 
theorem g_X28_fill_l38_fr  {k99 : Int → ga_D → ga_S} (hk99 : ∀ (x1 : Int) (D : ga_D), ga_fr 4930 4956 D (k99 x1 D)) : ∀ (n : Nat) (x1 x2 x4 : Int) (D : ga_D), ga_fr 4930 4956 D (g_X28_fill_l38 n x1 x2 x4 D k99) := by
  intro n
  induction n with
  | zero => intro x1 x2 x4 D; exact fr_none
  | succ n ih =>
    intro x1 x2 x4 D
    show ga_fr 4930 4956 D (if x1 ≠ 0 then (g_X28_fill_j52 x1 x2 x4 (D 4930 1) x4 D (fun x1 x2 x4 D38 => g_X28_fill_l38 n x1 x2 x4 D38 k99) (fun x1 D99 => k99 x1 D99)) else (g_X28_fill_j52 x1 x2 x4 0 x4 D (fun x1 x2 x4 D38 => g_X28_fill_l38 n x1 x2 x4 D38 k99) (fun x1 D99 => k99 x1 D99)))
    refine fr_ite (fun c41 => ?_) (fun c41 => ?_)
    refine g_X28_fill_j52_fr (fun x1 x2 x4 D38 => ?_) (fun x1 D99 => ?_) _ _ _ _ _ _ 
    exact ih _ _ _ _ 
    exact hk99 _ _ 
    refine g_X28_fill_j52_fr (fun x1 x2 x4 D38 => ?_) (fun x1 D99 => ?_) _ _ _ _ _ _ 
    exact ih _ _ _ _ 
    exact hk99 _ _ 
theorem g_X28_fill_l9_fr  {k105 : ga_D → ga_S} (hk105 : ∀ (D : ga_D), ga_fr 4930 4956 D (k105 D)) : ∀ (n : Nat) (x1 : Int) (D : ga_D), ga_fr 4930 4956 D (g_X28_fill_l9 n x1 D k105) := by
  intro n
  induction n with
  | zero => intro x1 D; exact fr_none
  | succ n ih =>
    intro x1 D
    show ga_fr 4930 4956 D (if x1 < 0 then (k105 D) else (ga_bind (g_X28_isClosed x1 D) (fun r15 D15 => if r15 = 0 then (ga_let (aw_w32 (x1 + (-1))) (fun v99 => g_X28_fill_l9 n v99 D15 k105)) else (ga_bind (g_X28_counts x1 D15) (fun r23 D23 => if x1 ≠ 0 then (g_X28_fill_l38 aw_fu x1 r23 0 D23 (fun x1 D99 => ga_let (aw_w32 (x1 + (-1))) (fun v99 => g_X28_fill_l9 n v99 D99 k105))) else (g_X28_fill_l38 aw_fu x1 r23 (-1) D23 (fun x1 D99 => ga_let (aw_w32 (x1 + (-1))) (fun v99 => g_X28_fill_l9 n v99 D99 k105))))))))
    refine fr_ite (fun c10 => ?_) (fun c10 => ?_)
    exact hk105 _ 
    refine fr_bind (g_X28_isClosed_fr) (fun r15 D15 => ?_)
    refine fr_ite (fun c18 => ?_) (fun c18 => ?_)
    refine fr_let (fun v99 => ?_)
    exact ih _ _ 
    refine fr_bind (g_X28_counts_fr) (fun r23 D23 => ?_)
    refine fr_ite (fun c28 => ?_) (fun c28 => ?_)
    refine g_X28_fill_l38_fr (fun x1 D99 => ?_) _ _ _ _ _ 
    refine fr_let (fun v99 => ?_)
    exact ih _ _ 
    refine g_X28_fill_l38_fr (fun x1 D99 => ?_) _ _ _ _ _ 
    refine fr_let (fun v99 => ?_)
    exact ih _ _ 
theorem g_X28_fill_fr {D : ga_D} : ga_fr 4930 4956 D (g_X28_fill D) := by
  unfold g_X28_fill
  refine fr_let (fun v8 => ?_)
  refine g_X28_fill_l9_fr (fun D105 => ?_) _ _ _ 
  refine fr_bind (g_X28_at_fr) (fun r111 D111 => ?_)
  refine fr_ck (fun ha114 => ?_)
  exact fr_some
theorem g_X28_run_l52_fr  {k108 : Int → Int → ga_D → ga_S} (hk108 : ∀ (x3 x5 : Int) (D : ga_D), ga_fr 4930 4956 D (k108 x3 x5 D)) : ∀ (n : Nat) (x3 x4 x5 : Int) (D : ga_D), ga_fr 4930 4956 D (g_X28_run_l52 n x3 x4 x5 D k108) := by
  intro n
  induction n with
  | zero => intro x3 x4 x5 D; exact fr_none
  | succ n ih =>
    intro x3 x4 x5 D
    show ga_fr 4930 4956 D (ga_bind (g_X28_mayCome x3 x5 D) (fun r56 D56 => if r56 = 0 then (ga_let (aw_w32 (x5 + 1)) (fun v102 => g_X28_run_l52 n x3 x4 v102 D56 k108)) else (ga_bind (g_X28_at (aw_or x3 (aw_shl 1 x5)) x5 D56) (fun r74 D74 => ga_ck (0 ≤ r74 ∧ r74 < 11264) (ga_bind (g_X28_cost x4 x5 D74) (fun r83 D83 => ga_bind (g_X28_at x3 x4 D83) (fun r94 D94 => ga_ck (0 ≤ r94 ∧ r94 < 11264) (if aw_w64 ((D74 4940 r74) - r83) = D94 4940 r94 then (k108 x3 x5 D94) else (ga_let (aw_w32 (x5 + 1)) (fun v102 => g_X28_run_l52 n x3 x4 v102 D94 k108))))))))))
    refine fr_bind (g_X28_mayCome_fr) (fun r56 D56 => ?_)
    refine fr_ite (fun c59 => ?_) (fun c59 => ?_)
    refine fr_let (fun v102 => ?_)
    exact ih _ _ _ _ 
    refine fr_bind (g_X28_at_fr) (fun r74 D74 => ?_)
    refine fr_ck (fun ha77 => ?_)
    refine fr_bind (g_X28_cost_fr) (fun r83 D83 => ?_)
    refine fr_bind (g_X28_at_fr) (fun r94 D94 => ?_)
    refine fr_ck (fun ha97 => ?_)
    refine fr_ite (fun c99 => ?_) (fun c99 => ?_)
    exact hk108 _ _ _ 
    refine fr_let (fun v102 => ?_)
    exact ih _ _ _ _ 
theorem g_X28_run_l29_fr  {k140 : Int → ga_D → ga_S} (hk140 : ∀ (x3 : Int) (D : ga_D), ga_fr 4930 4956 D (k140 x3 D)) : ∀ (n : Nat) (x3 x4 : Int) (D : ga_D), ga_fr 4930 4956 D (g_X28_run_l29 n x3 x4 D k140) := by
  intro n
  induction n with
  | zero => intro x3 x4 D; exact fr_none
  | succ n ih =>
    intro x3 x4 D
    show ga_fr 4930 4956 D (ga_bind (g_X28_counts x3 D) (fun r31 D31 => ga_bind (g_X28_at x3 x4 D31) (fun r41 D41 => ga_ck (0 ≤ r41 ∧ r41 < 11264) (if r31 = D41 4940 r41 then (k140 x3 D41) else (g_X28_run_l52 aw_fu x3 x4 0 D41 (fun x3 x5 D108 => ga_let (ga_set D108 4930 13 (aw_w32 ((D108 4930 13) + 1))) (fun D120 => ga_ck (0 ≤ D108 4930 13 ∧ D108 4930 13 < 10) (ga_let (ga_set D120 4941 (D108 4930 13) x5) (fun D125 => ga_let (aw_or x3 (aw_shl 1 x5)) (fun v132 => g_X28_run_l29 n v132 x5 D125 k140))))))))))
    refine fr_bind (g_X28_counts_fr) (fun r31 D31 => ?_)
    refine fr_bind (g_X28_at_fr) (fun r41 D41 => ?_)
    refine fr_ck (fun ha44 => ?_)
    refine fr_ite (fun c46 => ?_) (fun c46 => ?_)
    exact hk140 _ _ 
    refine g_X28_run_l52_fr (fun x3 x5 D108 => ?_) _ _ _ _ _ 
    refine fr_upd (by decide) (fun D120 => ?_)
    refine fr_ck (fun ha125 => ?_)
    refine fr_upd (by decide) (fun D125 => ?_)
    refine fr_let (fun v132 => ?_)
    exact ih _ _ _ 
theorem g_X28_run_l187_fr  {k228 : ga_D → ga_S} (hk228 : ∀ (D : ga_D), ga_fr 4930 4956 D (k228 D)) : ∀ (n : Nat) (x6 x7 : Int) (D : ga_D), ga_fr 4930 4956 D (g_X28_run_l187 n x6 x7 D k228) := by
  intro n
  induction n with
  | zero => intro x6 x7 D; exact fr_none
  | succ n ih =>
    intro x6 x7 D
    show ga_fr 4930 4956 D (if 12 ≤ x7 then (k228 D) else (if aw_and (aw_shr x6 x7) 1 ≠ 1 then (ga_ck (0 ≤ x7 ∧ x7 < 12) (ga_let (ga_set D 4942 x7 0) (fun D221 => ga_let (aw_w32 (x7 + 1)) (fun v222 => g_X28_run_l187 n x6 v222 D221 k228)))) else (ga_bind (g_X28_worthOf x7 D) (fun r214 D214 => ga_ck (0 ≤ x7 ∧ x7 < 12) (ga_let (ga_set D214 4942 x7 r214) (fun D221 => ga_let (aw_w32 (x7 + 1)) (fun v222 => g_X28_run_l187 n x6 v222 D221 k228)))))))
    refine fr_ite (fun c191 => ?_) (fun c191 => ?_)
    exact hk228 _ 
    refine fr_ite (fun c208 => ?_) (fun c208 => ?_)
    refine fr_ck (fun ha221 => ?_)
    refine fr_upd (by decide) (fun D221 => ?_)
    refine fr_let (fun v222 => ?_)
    exact ih _ _ _ 
    refine fr_bind (g_X28_worthOf_fr) (fun r214 D214 => ?_)
    refine fr_ck (fun ha221 => ?_)
    refine fr_upd (by decide) (fun D221 => ?_)
    refine fr_let (fun v222 => ?_)
    exact ih _ _ _ 
theorem g_X28_run_fr {x1 : Int} {D : ga_D} : ga_fr 4930 4956 D (g_X28_run x1 D) := by
  unfold g_X28_run
  refine fr_bind (g_X28_states_fr) (fun r1 D1 => ?_)
  refine fr_ite (fun c6 => ?_) (fun c6 => ?_)
  refine fr_bind (g_X28_fill_fr) (fun r13 D13 => ?_)
  refine fr_upd (by decide) (fun D16 => ?_)
  refine fr_upd (by decide) (fun D26 => ?_)
  refine g_X28_run_l29_fr (fun x3 D140 => ?_) _ _ _ _ 
  refine fr_upd (by decide) (fun D142 => ?_)
  refine fr_upd (by decide) (fun D150 => ?_)
  refine fr_bind (g_X28_freeBy_fr) (fun r155 D155 => ?_)
  refine fr_bind (g_X28_brokenBy_fr) (fun r164 D164 => ?_)
  refine fr_let (fun v170 => ?_)
  refine fr_upd (by decide) (fun D181 => ?_)
  refine g_X28_run_l187_fr (fun D228 => ?_) _ _ _ _ 
  refine fr_upd (by decide) (fun D230 => ?_)
  refine fr_upd (by decide) (fun D235 => ?_)
  exact fr_some
  exact fr_some
theorem g_X28_step_fr {x1 : Int} {D : ga_D} : ga_fr 4930 4956 D (g_X28_step x1 D) := by
  unfold g_X28_step
  refine fr_ite (fun c1 => ?_) (fun c1 => ?_)
  exact fr_some
  refine fr_ite (fun c9 => ?_) (fun c9 => ?_)
  exact fr_some
  refine fr_ck (fun ha17 => ?_)
  exact fr_some
theorem g_X28_bit_l4_fr  {k25 : Int → Int → ga_D → ga_S} (hk25 : ∀ (x1 x2 : Int) (D : ga_D), ga_fr 4930 4956 D (k25 x1 x2 D)) : ∀ (n : Nat) (x1 x2 x3 : Int) (D : ga_D), ga_fr 4930 4956 D (g_X28_bit_l4 n x1 x2 x3 D k25) := by
  intro n
  induction n with
  | zero => intro x1 x2 x3 D; exact fr_none
  | succ n ih =>
    intro x1 x2 x3 D
    show ga_fr 4930 4956 D (if x1 ≤ x3 then (k25 x1 x2 D) else (if x2 = 0 then (k25 x1 x2 D) else (ga_let (aw_and x2 (aw_w32 (x2 - 1))) (fun v18 => ga_let (aw_w32 (x3 + 1)) (fun v19 => g_X28_bit_l4 n x1 v18 v19 D k25)))))
    refine fr_ite (fun c6 => ?_) (fun c6 => ?_)
    exact hk25 _ _ _ 
    refine fr_ite (fun c10 => ?_) (fun c10 => ?_)
    exact hk25 _ _ _ 
    refine fr_let (fun v18 => ?_)
    refine fr_let (fun v19 => ?_)
    exact ih _ _ _ _ 
theorem g_X28_bit_j25_fr  (x1 x2 : Int) (D : ga_D) : ga_fr 4930 4956 D (g_X28_bit_j25 x1 x2 D) := by
  unfold g_X28_bit_j25
  refine fr_ite (fun c26 => ?_) (fun c26 => ?_)
  exact fr_some
  refine fr_ite (fun c30 => ?_) (fun c30 => ?_)
  refine fr_bind (g_J25_numberOfTrailingZeros_fr) (fun r38 D38 => ?_)
  exact fr_some
  exact fr_some
theorem g_X28_bit_fr {x0 x1 : Int} {D : ga_D} : ga_fr 4930 4956 D (g_X28_bit x0 x1 D) := by
  unfold g_X28_bit
  refine g_X28_bit_l4_fr (fun x1 x2 D25 => ?_) _ _ _ _ _ 
  refine g_X28_bit_j25_fr _ _ _ 
theorem g_X28_stops_fr {x1 : Int} {D : ga_D} : ga_fr 4930 4956 D (g_X28_stops x1 D) := by
  unfold g_X28_stops
  refine fr_ite (fun c4 => ?_) (fun c4 => ?_)
  exact fr_some
  refine fr_bind (g_X28_bit_fr) (fun r12 D12 => ?_)
  exact fr_some
theorem g_X28_other_fr {x1 : Int} {D : ga_D} : ga_fr 4930 4956 D (g_X28_other x1 D) := by
  unfold g_X28_other
  refine fr_ite (fun c4 => ?_) (fun c4 => ?_)
  exact fr_some
  refine fr_bind (g_X28_bit_fr) (fun r23 D23 => ?_)
  exact fr_some
theorem g_X28_gain_fr {x1 : Int} {D : ga_D} : ga_fr 4930 4956 D (g_X28_gain x1 D) := by
  unfold g_X28_gain
  refine fr_ite (fun c4 => ?_) (fun c4 => ?_)
  exact fr_some
  refine fr_ite (fun c9 => ?_) (fun c9 => ?_)
  exact fr_some
  refine fr_ite (fun c15 => ?_) (fun c15 => ?_)
  refine fr_ite (fun c22 => ?_) (fun c22 => ?_)
  refine fr_ck (fun ha37 => ?_)
  exact fr_some
  exact fr_some
  exact fr_some
theorem g_X28_proved_fr {D : ga_D} : ga_fr 4930 4956 D (g_X28_proved D) := by
  unfold g_X28_proved
  refine fr_ck (fun hr4 => ?_)
  exact fr_some
theorem g_X28_bound_l4_fr  {k28 : Int → ga_D → ga_S} (hk28 : ∀ (x1 : Int) (D : ga_D), ga_fr 4930 4956 D (k28 x1 D)) : ∀ (n : Nat) (x1 x3 : Int) (D : ga_D), ga_fr 4930 4956 D (g_X28_bound_l4 n x1 x3 D k28) := by
  intro n
  induction n with
  | zero => intro x1 x3 D; exact fr_none
  | succ n ih =>
    intro x1 x3 D
    show ga_fr 4930 4956 D (if 12 ≤ x3 then (k28 x1 D) else (ga_bind (g_X28_worthOf x3 D) (fun r14 D14 => ga_let (aw_w64 (x1 + (aw_max 0 r14))) (fun v21 => ga_let (aw_w32 (x3 + 1)) (fun v22 => g_X28_bound_l4 n v21 v22 D14 k28)))))
    refine fr_ite (fun c7 => ?_) (fun c7 => ?_)
    exact hk28 _ _ 
    refine fr_bind (g_X28_worthOf_fr) (fun r14 D14 => ?_)
    refine fr_let (fun v21 => ?_)
    refine fr_let (fun v22 => ?_)
    exact ih _ _ _ 
theorem g_X28_bound_l33_fr  {k60 : Int → Int → ga_D → ga_S} (hk60 : ∀ (x1 x3 : Int) (D : ga_D), ga_fr 4930 4956 D (k60 x1 x3 D)) : ∀ (n : Nat) (x1 x3 x4 : Int) (D : ga_D), ga_fr 4930 4956 D (g_X28_bound_l33 n x1 x3 x4 D k60) := by
  intro n
  induction n with
  | zero => intro x1 x3 x4 D; exact fr_none
  | succ n ih =>
    intro x1 x3 x4 D
    show ga_fr 4930 4956 D (if D 4930 8 ≤ x4 then (k60 x1 x3 D) else (ga_ck (0 ≤ x4 ∧ x4 < 16) (ga_let (aw_max x3 (D 4939 x4)) (fun v53 => ga_let (aw_w32 (x4 + 1)) (fun v54 => g_X28_bound_l33 n x1 v53 v54 D k60)))))
    refine fr_ite (fun c39 => ?_) (fun c39 => ?_)
    exact hk60 _ _ _ 
    refine fr_ck (fun ha49 => ?_)
    refine fr_let (fun v53 => ?_)
    refine fr_let (fun v54 => ?_)
    exact ih _ _ _ _ 
theorem g_X28_bound_fr {D : ga_D} : ga_fr 4930 4956 D (g_X28_bound D) := by
  unfold g_X28_bound
  refine g_X28_bound_l4_fr (fun x1 D28 => ?_) _ _ _ _ 
  refine g_X28_bound_l33_fr (fun x1 x3 D60 => ?_) _ _ _ _ _ 
  exact fr_some
theorem g_X28_test_fr {x1 x2 : Int} {D : ga_D} : ga_fr 4930 4956 D (g_X28_test x1 x2 D) := by
  unfold g_X28_test
  refine fr_bind (g_X28_isPart_fr) (fun r1 D1 => ?_)
  refine fr_ite (fun c4 => ?_) (fun c4 => ?_)
  exact fr_some
  refine fr_bind (g_X28_isIn_fr) (fun r12 D12 => ?_)
  refine fr_ite (fun c15 => ?_) (fun c15 => ?_)
  refine fr_ck (fun ha25 => ?_)
  refine fr_let (fun v26 => ?_)
  refine fr_bind (g_X28_fill_fr) (fun r29 D29 => ?_)
  refine fr_ck (fun ha42 => ?_)
  refine fr_upd (by decide) (fun D42 => ?_)
  refine fr_bind (g_X28_fill_fr) (fun r44 D44 => ?_)
  refine fr_ck (fun ha55 => ?_)
  refine fr_upd (by decide) (fun D55 => ?_)
  refine fr_bind (g_X28_fill_fr) (fun r57 D57 => ?_)
  refine fr_ck (fun ha69 => ?_)
  refine fr_upd (by decide) (fun D69 => ?_)
  refine fr_ite (fun c100 => ?_) (fun c100 => ?_)
  exact fr_some
  exact fr_some
  exact fr_some
theorem g_X28_nextOf_l4_fr  {k27 : Int → ga_D → ga_S} (hk27 : ∀ (x2 : Int) (D : ga_D), ga_fr 4930 4956 D (k27 x2 D)) : ∀ (n : Nat) (x2 : Int) (D : ga_D), ga_fr 4930 4956 D (g_X28_nextOf_l4 n x2 D k27) := by
  intro n
  induction n with
  | zero => intro x2 D; exact fr_none
  | succ n ih =>
    intro x2 D
    show ga_fr 4930 4956 D (if 10 ≤ x2 then (k27 x2 D) else (if aw_and (aw_shr (D 4930 14) x2) 1 ≠ 0 then (k27 x2 D) else (ga_let (aw_w32 (x2 + 1)) (fun v21 => g_X28_nextOf_l4 n v21 D k27))))
    refine fr_ite (fun c7 => ?_) (fun c7 => ?_)
    exact hk27 _ _ 
    refine fr_ite (fun c18 => ?_) (fun c18 => ?_)
    exact hk27 _ _ 
    refine fr_let (fun v21 => ?_)
    exact ih _ _ 
theorem g_X28_nextOf_j27_fr  (x2 : Int) (D : ga_D) : ga_fr 4930 4956 D (g_X28_nextOf_j27 x2 D) := by
  unfold g_X28_nextOf_j27
  refine fr_ite (fun c30 => ?_) (fun c30 => ?_)
  exact fr_some
  exact fr_some
theorem g_X28_nextOf_fr {x1 : Int} {D : ga_D} : ga_fr 4930 4956 D (g_X28_nextOf x1 D) := by
  unfold g_X28_nextOf
  refine fr_let (fun v3 => ?_)
  refine g_X28_nextOf_l4_fr (fun x2 D27 => ?_) _ _ _ 
  refine g_X28_nextOf_j27_fr _ _ 
theorem g_X28_lastOf_l4_fr  {k25 : Int → ga_D → ga_S} (hk25 : ∀ (x2 : Int) (D : ga_D), ga_fr 4930 4956 D (k25 x2 D)) : ∀ (n : Nat) (x2 : Int) (D : ga_D), ga_fr 4930 4956 D (g_X28_lastOf_l4 n x2 D k25) := by
  intro n
  induction n with
  | zero => intro x2 D; exact fr_none
  | succ n ih =>
    intro x2 D
    show ga_fr 4930 4956 D (if x2 < 0 then (k25 x2 D) else (if aw_and (aw_shr (D 4930 14) x2) 1 ≠ 0 then (k25 x2 D) else (ga_let (aw_w32 (x2 + (-1))) (fun v19 => g_X28_lastOf_l4 n v19 D k25))))
    refine fr_ite (fun c5 => ?_) (fun c5 => ?_)
    exact hk25 _ _ 
    refine fr_ite (fun c16 => ?_) (fun c16 => ?_)
    exact hk25 _ _ 
    refine fr_let (fun v19 => ?_)
    exact ih _ _ 
theorem g_X28_lastOf_fr {x1 : Int} {D : ga_D} : ga_fr 4930 4956 D (g_X28_lastOf x1 D) := by
  unfold g_X28_lastOf
  refine fr_let (fun v3 => ?_)
  refine g_X28_lastOf_l4_fr (fun x2 D25 => ?_) _ _ _ 
  exact fr_some
theorem g_X28_isAllowed_j56_fr  {k4 : Int → Int → Int → ga_D → ga_S} (hk4 : ∀ (x1 x2 x3 : Int) (D : ga_D), ga_fr 4930 4956 D (k4 x1 x2 x3 D)) (x1 x3 : Int) (D : ga_D) : ga_fr 4930 4956 D (g_X28_isAllowed_j56 x1 x3 D k4) := by
  unfold g_X28_isAllowed_j56
  refine fr_ck (fun ha61 => ?_)
  refine fr_ite (fun c69 => ?_) (fun c69 => ?_)
  refine fr_let (fun v93 => ?_)
  exact hk4 _ _ _ _ 
  refine fr_ck (fun ha77 => ?_)
  refine fr_ck (fun ha83 => ?_)
  refine fr_ite (fun c84 => ?_) (fun c84 => ?_)
  refine fr_let (fun v93 => ?_)
  exact hk4 _ _ _ _ 
  refine fr_let (fun v93 => ?_)
  exact hk4 _ _ _ _ 
theorem g_X28_isAllowed_l4_fr  {k99 : Int → ga_D → ga_S} (hk99 : ∀ (x2 : Int) (D : ga_D), ga_fr 4930 4956 D (k99 x2 D)) : ∀ (n : Nat) (x1 x2 x3 : Int) (D : ga_D), ga_fr 4930 4956 D (g_X28_isAllowed_l4 n x1 x2 x3 D k99) := by
  intro n
  induction n with
  | zero => intro x1 x2 x3 D; exact fr_none
  | succ n ih =>
    intro x1 x2 x3 D
    show ga_fr 4930 4956 D (if x1 ≤ x3 then (k99 x2 D) else (if x2 = 0 then (k99 x2 D) else (if aw_and (aw_shr (D 4930 14) x3) 1 ≠ 1 then (ga_let (aw_w32 (x3 + 1)) (fun v93 => g_X28_isAllowed_l4 n x1 x2 v93 D k99)) else (ga_ck (0 ≤ x1 ∧ x1 < 10) (if aw_and (aw_shr (D ((x1 + 4946)) 5) x3) 1 = 0 then (g_X28_isAllowed_j56 x1 x3 D (fun x1 x2 x3 D4 => g_X28_isAllowed_l4 n x1 x2 x3 D4 k99)) else (ga_ck (0 ≤ x3 ∧ x3 < 10) (ga_ck (0 ≤ x1 ∧ x1 < 10) (if D 4944 x1 < D 4944 x3 then (ga_let (aw_w32 (x3 + 1)) (fun v93 => g_X28_isAllowed_l4 n x1 0 v93 D k99)) else (g_X28_isAllowed_j56 x1 x3 D (fun x1 x2 x3 D4 => g_X28_isAllowed_l4 n x1 x2 x3 D4 k99))))))))))
    refine fr_ite (fun c6 => ?_) (fun c6 => ?_)
    exact hk99 _ _ 
    refine fr_ite (fun c10 => ?_) (fun c10 => ?_)
    exact hk99 _ _ 
    refine fr_ite (fun c22 => ?_) (fun c22 => ?_)
    refine fr_let (fun v93 => ?_)
    exact ih _ _ _ _ 
    refine fr_ck (fun ha30 => ?_)
    refine fr_ite (fun c38 => ?_) (fun c38 => ?_)
    refine g_X28_isAllowed_j56_fr (fun x1 x2 x3 D4 => ?_) _ _ _ 
    exact ih _ _ _ _ 
    refine fr_ck (fun ha46 => ?_)
    refine fr_ck (fun ha52 => ?_)
    refine fr_ite (fun c53 => ?_) (fun c53 => ?_)
    refine fr_let (fun v93 => ?_)
    exact ih _ _ _ _ 
    refine g_X28_isAllowed_j56_fr (fun x1 x2 x3 D4 => ?_) _ _ _ 
    exact ih _ _ _ _ 
theorem g_X28_isAllowed_fr {x1 : Int} {D : ga_D} : ga_fr 4930 4956 D (g_X28_isAllowed x1 D) := by
  unfold g_X28_isAllowed
  refine g_X28_isAllowed_l4_fr (fun x2 D99 => ?_) _ _ _ _ _ 
  refine fr_ck (fun hr100 => ?_)
  exact fr_some
theorem g_X28_longest_l5_fr  {k29 : Int → ga_D → ga_S} (hk29 : ∀ (x2 : Int) (D : ga_D), ga_fr 4930 4956 D (k29 x2 D)) : ∀ (n : Nat) (x1 x2 x4 : Int) (D : ga_D), ga_fr 4930 4956 D (g_X28_longest_l5 n x1 x2 x4 D k29) := by
  intro n
  induction n with
  | zero => intro x1 x2 x4 D; exact fr_none
  | succ n ih =>
    intro x1 x2 x4 D
    show ga_fr 4930 4956 D (if x1 ≤ x4 then (k29 x2 D) else (ga_ck (0 ≤ x4 ∧ x4 < 4) (ga_let (aw_max x2 (D 4945 x4)) (fun v22 => ga_let (aw_w32 (x4 + 1)) (fun v23 => g_X28_longest_l5 n x1 v22 v23 D k29)))))
    refine fr_ite (fun c8 => ?_) (fun c8 => ?_)
    exact hk29 _ _ 
    refine fr_ck (fun ha18 => ?_)
    refine fr_let (fun v22 => ?_)
    refine fr_let (fun v23 => ?_)
    exact ih _ _ _ _ 
theorem g_X28_longest_fr {x1 : Int} {D : ga_D} : ga_fr 4930 4956 D (g_X28_longest x1 D) := by
  unfold g_X28_longest
  refine g_X28_longest_l5_fr (fun x2 D29 => ?_) _ _ _ _ _ 
  exact fr_some
theorem g_X28_stations_l26_fr  {k46 : Int → Int → ga_D → ga_S} (hk46 : ∀ (x1 x2 : Int) (D : ga_D), ga_fr 4930 4956 D (k46 x1 x2 D)) : ∀ (n : Nat) (x1 x2 x4 : Int) (D : ga_D), ga_fr 4930 4956 D (g_X28_stations_l26 n x1 x2 x4 D k46) := by
  intro n
  induction n with
  | zero => intro x1 x2 x4 D; exact fr_none
  | succ n ih =>
    intro x1 x2 x4 D
    show ga_fr 4930 4956 D (if x1 ≤ x4 then (k46 x1 x2 D) else (ga_ck (0 ≤ x4 ∧ x4 < 4) (ga_let (ga_set D 4945 x4 0) (fun D39 => ga_let (aw_w32 (x4 + 1)) (fun v40 => g_X28_stations_l26 n x1 x2 v40 D39 k46)))))
    refine fr_ite (fun c29 => ?_) (fun c29 => ?_)
    exact hk46 _ _ _ 
    refine fr_ck (fun ha39 => ?_)
    refine fr_upd (by decide) (fun D39 => ?_)
    refine fr_let (fun v40 => ?_)
    exact ih _ _ _ _ 
theorem g_X28_stations_l64_fr  {k93 : Int → Int → Int → ga_D → ga_S} (hk93 : ∀ (x1 x2 x4 : Int) (D : ga_D), ga_fr 4930 4956 D (k93 x1 x2 x4 D)) : ∀ (n : Nat) (x1 x2 x4 x5 : Int) (D : ga_D), ga_fr 4930 4956 D (g_X28_stations_l64 n x1 x2 x4 x5 D k93) := by
  intro n
  induction n with
  | zero => intro x1 x2 x4 x5 D; exact fr_none
  | succ n ih =>
    intro x1 x2 x4 x5 D
    show ga_fr 4930 4956 D (if 10 ≤ x5 then (k93 x1 x2 x4 D) else (ga_ck (0 ≤ x5 ∧ x5 < 10) (ga_let (ga_set D 4944 x5 (-1)) (fun D78 => ga_ck (0 ≤ x5 ∧ x5 < 10) (ga_let (ga_set D78 4943 x5 (-1)) (fun D86 => ga_let (aw_w32 (x5 + 1)) (fun v87 => g_X28_stations_l64 n x1 x2 x4 v87 D86 k93)))))))
    refine fr_ite (fun c68 => ?_) (fun c68 => ?_)
    exact hk93 _ _ _ _ 
    refine fr_ck (fun ha78 => ?_)
    refine fr_upd (by decide) (fun D78 => ?_)
    refine fr_ck (fun ha86 => ?_)
    refine fr_upd (by decide) (fun D86 => ?_)
    refine fr_let (fun v87 => ?_)
    exact ih _ _ _ _ _ 
theorem g_X28_stations_j136_fr  {k93 : Int → Int → Int → ga_D → ga_S} (hk93 : ∀ (x1 x2 x4 : Int) (D : ga_D), ga_fr 4930 4956 D (k93 x1 x2 x4 D)) (x1 x2 x4 : Int) (D : ga_D) : ga_fr 4930 4956 D (g_X28_stations_j136 x1 x2 x4 D k93) := by
  unfold g_X28_stations_j136
  refine fr_ck (fun ha143 => ?_)
  refine fr_ck (fun ha146 => ?_)
  refine fr_upd (by decide) (fun D146 => ?_)
  refine fr_ck (fun ha153 => ?_)
  refine fr_ite (fun c155 => ?_) (fun c155 => ?_)
  refine fr_ck (fun ha187 => ?_)
  refine fr_ck (fun ha189 => ?_)
  refine fr_ck (fun ha196 => ?_)
  refine fr_ck (fun ha202 => ?_)
  refine fr_upd (by decide) (fun D202 => ?_)
  refine fr_bind (g_X28_isAllowed_fr) (fun r206 D206 => ?_)
  refine fr_ite (fun c209 => ?_) (fun c209 => ?_)
  exact hk93 _ _ _ _ 
  refine fr_ck (fun ha222 => ?_)
  refine fr_ck (fun ha223 => ?_)
  refine fr_ite (fun c226 => ?_) (fun c226 => ?_)
  exact hk93 _ _ _ _ 
  refine fr_bind (g_X28_nextOf_fr) (fun r232 D232 => ?_)
  refine fr_ite (fun c240 => ?_) (fun c240 => ?_)
  refine fr_bind (g_X28_longest_fr) (fun r252 D252 => ?_)
  refine fr_ite (fun c257 => ?_) (fun c257 => ?_)
  exact hk93 _ _ _ _ 
  refine fr_bind (g_X28_longest_fr) (fun r262 D262 => ?_)
  refine fr_ck (fun ha278 => ?_)
  refine fr_cpy (by decide) (fun D278 => ?_)
  exact hk93 _ _ _ _ 
  exact hk93 _ _ _ _ 
  refine fr_ck (fun ha165 => ?_)
  refine fr_upd (by decide) (fun D165 => ?_)
  refine fr_bind (g_X28_lastOf_fr) (fun r169 D169 => ?_)
  exact hk93 _ _ _ _ 
theorem g_X28_stations_l93_fr  {k284 : Int → ga_D → ga_S} (hk284 : ∀ (x2 : Int) (D : ga_D), ga_fr 4930 4956 D (k284 x2 D)) : ∀ (n : Nat) (x1 x2 x4 : Int) (D : ga_D), ga_fr 4930 4956 D (g_X28_stations_l93 n x1 x2 x4 D k284) := by
  intro n
  induction n with
  | zero => intro x1 x2 x4 D; exact fr_none
  | succ n ih =>
    intro x1 x2 x4 D
    show ga_fr 4930 4956 D (if x4 = (-1) then (k284 x2 D) else (ga_ck (0 ≤ x4 ∧ x4 < 10) (if D 4944 x4 = (-1) then (g_X28_stations_j136 x1 x2 x4 D (fun x1 x2 x4 D93 => g_X28_stations_l93 n x1 x2 x4 D93 k284)) else (ga_ck (0 ≤ x4 ∧ x4 < 10) (ga_ck (0 ≤ D 4944 x4 ∧ D 4944 x4 < 4) (ga_ck (0 ≤ x4 ∧ x4 < 10) (ga_ck (0 ≤ D 4944 x4 ∧ D 4944 x4 < 4) (ga_let (ga_set D 4945 (D 4944 x4) (aw_w64 ((D 4945 (D 4944 x4)) - (D ((x4 + 4946)) 3)))) (fun D135 => g_X28_stations_j136 x1 x2 x4 D135 (fun x1 x2 x4 D93 => g_X28_stations_l93 n x1 x2 x4 D93 k284))))))))))
    refine fr_ite (fun c96 => ?_) (fun c96 => ?_)
    exact hk284 _ _ 
    refine fr_ck (fun ha105 => ?_)
    refine fr_ite (fun c107 => ?_) (fun c107 => ?_)
    refine g_X28_stations_j136_fr (fun x1 x2 x4 D93 => ?_) _ _ _ _ 
    exact ih _ _ _ _ 
    refine fr_ck (fun ha120 => ?_)
    refine fr_ck (fun ha122 => ?_)
    refine fr_ck (fun ha129 => ?_)
    refine fr_ck (fun ha135 => ?_)
    refine fr_upd (by decide) (fun D135 => ?_)
    refine g_X28_stations_j136_fr (fun x1 x2 x4 D93 => ?_) _ _ _ _ 
    exact ih _ _ _ _ 
theorem g_X28_stations_fr {x1 : Int} {D : ga_D} : ga_fr 4930 4956 D (g_X28_stations x1 D) := by
  unfold g_X28_stations
  refine fr_ite (fun c4 => ?_) (fun c4 => ?_)
  exact fr_some
  refine fr_ite (fun c9 => ?_) (fun c9 => ?_)
  exact fr_some
  refine fr_ite (fun c14 => ?_) (fun c14 => ?_)
  refine g_X28_stations_l26_fr (fun x1 x2 D46 => ?_) _ _ _ _ _ 
  refine fr_bind (g_X28_nextOf_fr) (fun r48 D48 => ?_)
  refine fr_ite (fun c56 => ?_) (fun c56 => ?_)
  refine g_X28_stations_l64_fr (fun x1 x2 x4 D93 => ?_) _ _ _ _ _ _ 
  refine g_X28_stations_l93_fr (fun x2 D284 => ?_) _ _ _ _ _ 
  exact fr_some
  refine g_X28_stations_l64_fr (fun x1 x2 x4 D93 => ?_) _ _ _ _ _ _ 
  refine g_X28_stations_l93_fr (fun x2 D284 => ?_) _ _ _ _ _ 
  exact fr_some
  exact fr_some
theorem g_X28_station_fr {x1 : Int} {D : ga_D} : ga_fr 4930 4956 D (g_X28_station x1 D) := by
  unfold g_X28_station
  refine fr_ite (fun c1 => ?_) (fun c1 => ?_)
  exact fr_some
  refine fr_ite (fun c7 => ?_) (fun c7 => ?_)
  exact fr_some
  refine fr_ck (fun ha15 => ?_)
  exact fr_some
