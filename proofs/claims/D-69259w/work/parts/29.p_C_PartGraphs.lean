theorem g_X24_unit_pr {x1 : Int} {D : ga_D} : ga_pr D (g_X24_unit x1 D) := by
  unfold g_X24_unit
  refine pr_ite (fun c1 => ?_) (fun c1 => ?_)
  exact pr_some
  refine pr_ite (fun c8 => ?_) (fun c8 => ?_)
  exact pr_some
  refine pr_ite (fun c18 => ?_) (fun c18 => ?_)
  refine pr_upd (ga_Pn K_4875 rfl) (fun D35 => ?_)
  refine pr_ck (fun ha40 => ?_)
  refine pr_upd (ga_Pn K_4926 rfl) (fun D40 => ?_)
  exact pr_some
  exact pr_some
theorem g_X26_isPlain_pr {x0 x1 : Int} {D : ga_D} : ga_pr D (g_X26_isPlain x0 x1 D) := by
  unfold g_X26_isPlain
  refine pr_ck (fun hk1_0 => ?_)
  refine pr_ite (fun c8 => ?_) (fun c8 => ?_)
  exact pr_some
  exact pr_some
theorem g_X26_isFree_l4_pr  {k37 : Int → Int → Int → ga_D → ga_S} (hk37 : ∀ (x0 x1 x2 : Int) (D : ga_D), ga_pr D (k37 x0 x1 x2 D)) : ∀ (n : Nat) (x0 x1 x2 x3 : Int) (D : ga_D), ga_pr D (g_X26_isFree_l4 n x0 x1 x2 x3 D k37) := by
  intro n
  induction n with
  | zero => intro x0 x1 x2 x3 D; exact pr_none
  | succ n ih =>
    intro x0 x1 x2 x3 D
    show ga_pr D (if 6 ≤ x3 then (k37 x0 x1 x2 D) else (ga_ck (ga_K x0 = (24, 0)) (ga_ck (0 ≤ x3 ∧ x3 < 6) (if aw_and (D ((x0 + 1)) x3) (aw_xor x1 (-1)) ≠ 0 then (ga_let (aw_or x2 0) (fun v30 => ga_let (aw_w32 (x3 + 1)) (fun v31 => g_X26_isFree_l4 n x0 x1 v30 v31 D k37))) else (ga_let (aw_or x2 1) (fun v30 => ga_let (aw_w32 (x3 + 1)) (fun v31 => g_X26_isFree_l4 n x0 x1 v30 v31 D k37)))))))
    refine pr_ite (fun c7 => ?_) (fun c7 => ?_)
    exact hk37 _ _ _ _ 
    refine pr_ck (fun hk12_0 => ?_)
    refine pr_ck (fun ha16 => ?_)
    refine pr_ite (fun c21 => ?_) (fun c21 => ?_)
    refine pr_let (fun v30 => ?_)
    refine pr_let (fun v31 => ?_)
    exact ih _ _ _ _ _ 
    refine pr_let (fun v30 => ?_)
    refine pr_let (fun v31 => ?_)
    exact ih _ _ _ _ _ 
theorem g_X26_isFree_pr {x0 x1 : Int} {D : ga_D} : ga_pr D (g_X26_isFree x0 x1 D) := by
  unfold g_X26_isFree
  refine g_X26_isFree_l4_pr (fun x0 x1 x2 D37 => ?_) _ _ _ _ _ _ 
  refine pr_ite (fun c38 => ?_) (fun c38 => ?_)
  exact pr_some
  refine pr_bind (g_X26_isPlain_pr) (fun r43 D43 => ?_)
  refine pr_ck (fun hk43_0 => ?_)
  refine pr_ite (fun c46 => ?_) (fun c46 => ?_)
  exact pr_some
  exact pr_some
theorem g_X25_comesOff_l13_pr  {k66 : Int → Int → Int → Int → ga_D → ga_S} (hk66 : ∀ (x0 x1 x2 x3 : Int) (D : ga_D), ga_pr D (k66 x0 x1 x2 x3 D)) : ∀ (n : Nat) (x0 x1 x2 x3 x4 : Int) (D : ga_D), ga_pr D (g_X25_comesOff_l13 n x0 x1 x2 x3 x4 D k66) := by
  intro n
  induction n with
  | zero => intro x0 x1 x2 x3 x4 D; exact pr_none
  | succ n ih =>
    intro x0 x1 x2 x3 x4 D
    show ga_pr D (ga_ck (ga_K x0 = (23, 0)) (if D x0 0 ≤ x4 then (k66 x0 x1 x2 x3 D) else (if x4 = x1 then (ga_let (aw_w32 (x4 + 1)) (fun v60 => g_X25_comesOff_l13 n x0 x1 x2 x3 v60 D k66)) else (if aw_and (aw_shr x2 x4) 1 ≠ 0 then (ga_let (aw_w32 (x4 + 1)) (fun v60 => g_X25_comesOff_l13 n x0 x1 x2 x3 v60 D k66)) else (ga_ck (0 ≤ x4 ∧ x4 < 10) (ga_bind (g_X26_isFree ((x0 + 2 * x4 + 5)) x2 D) (fun r45 D45 => if r45 = 0 then (ga_let (aw_w32 (x4 + 1)) (fun v60 => g_X25_comesOff_l13 n x0 x1 x2 x3 v60 D45 k66)) else (ga_let (aw_or x2 (aw_shl 1 x4)) (fun v57 => ga_let (aw_w32 (x4 + 1)) (fun v60 => g_X25_comesOff_l13 n x0 x1 v57 1 v60 D45 k66))))))))))
    refine pr_ck (fun hk16_0 => ?_)
    refine pr_ite (fun c19 => ?_) (fun c19 => ?_)
    exact hk66 _ _ _ _ _ 
    refine pr_ite (fun c25 => ?_) (fun c25 => ?_)
    refine pr_let (fun v60 => ?_)
    exact ih _ _ _ _ _ _ 
    refine pr_ite (fun c34 => ?_) (fun c34 => ?_)
    refine pr_let (fun v60 => ?_)
    exact ih _ _ _ _ _ _ 
    refine pr_ck (fun ha43 => ?_)
    refine pr_bind (g_X26_isFree_pr) (fun r45 D45 => ?_)
    refine pr_ite (fun c48 => ?_) (fun c48 => ?_)
    refine pr_let (fun v60 => ?_)
    exact ih _ _ _ _ _ _ 
    refine pr_let (fun v57 => ?_)
    refine pr_let (fun v60 => ?_)
    exact ih _ _ _ _ _ _ 
theorem g_X25_comesOff_l4_pr  {k69 : Int → ga_D → ga_S} (hk69 : ∀ (x2 : Int) (D : ga_D), ga_pr D (k69 x2 D)) : ∀ (n : Nat) (x0 x1 x2 x3 : Int) (D : ga_D), ga_pr D (g_X25_comesOff_l4 n x0 x1 x2 x3 D k69) := by
  intro n
  induction n with
  | zero => intro x0 x1 x2 x3 D; exact pr_none
  | succ n ih =>
    intro x0 x1 x2 x3 D
    show ga_pr D (if x3 = 0 then (k69 x2 D) else (g_X25_comesOff_l13 aw_fu x0 x1 x2 0 0 D (fun x0 x1 x2 x3 D66 => g_X25_comesOff_l4 n x0 x1 x2 x3 D66 k69)))
    refine pr_ite (fun c5 => ?_) (fun c5 => ?_)
    exact hk69 _ _ 
    refine g_X25_comesOff_l13_pr (fun x0 x1 x2 x3 D66 => ?_) _ _ _ _ _ _ _ 
    exact ih _ _ _ _ _ 
theorem g_X25_comesOff_pr {x0 x1 : Int} {D : ga_D} : ga_pr D (g_X25_comesOff x0 x1 D) := by
  unfold g_X25_comesOff
  refine g_X25_comesOff_l4_pr (fun x2 D69 => ?_) _ _ _ _ _ _ 
  exact pr_some
theorem g_X25_isPart_pr {x0 x1 : Int} {D : ga_D} : ga_pr D (g_X25_isPart x0 x1 D) := by
  unfold g_X25_isPart
  refine pr_ite (fun c3 => ?_) (fun c3 => ?_)
  exact pr_some
  refine pr_ck (fun hk8_0 => ?_)
  refine pr_ite (fun c13 => ?_) (fun c13 => ?_)
  exact pr_some
  exact pr_some
theorem g_X24_bit_l4_pr  {k25 : Int → Int → ga_D → ga_S} (hk25 : ∀ (x1 x2 : Int) (D : ga_D), ga_pr D (k25 x1 x2 D)) : ∀ (n : Nat) (x1 x2 x3 : Int) (D : ga_D), ga_pr D (g_X24_bit_l4 n x1 x2 x3 D k25) := by
  intro n
  induction n with
  | zero => intro x1 x2 x3 D; exact pr_none
  | succ n ih =>
    intro x1 x2 x3 D
    show ga_pr D (if x1 ≤ x3 then (k25 x1 x2 D) else (if x2 = 0 then (k25 x1 x2 D) else (ga_let (aw_and x2 (aw_w32 (x2 - 1))) (fun v18 => ga_let (aw_w32 (x3 + 1)) (fun v19 => g_X24_bit_l4 n x1 v18 v19 D k25)))))
    refine pr_ite (fun c6 => ?_) (fun c6 => ?_)
    exact hk25 _ _ _ 
    refine pr_ite (fun c10 => ?_) (fun c10 => ?_)
    exact hk25 _ _ _ 
    refine pr_let (fun v18 => ?_)
    refine pr_let (fun v19 => ?_)
    exact ih _ _ _ _ 
theorem g_X24_bit_j25_pr  (x1 x2 : Int) (D : ga_D) : ga_pr D (g_X24_bit_j25 x1 x2 D) := by
  unfold g_X24_bit_j25
  refine pr_ite (fun c26 => ?_) (fun c26 => ?_)
  exact pr_some
  refine pr_ite (fun c30 => ?_) (fun c30 => ?_)
  refine pr_bind (g_J25_numberOfTrailingZeros_pr) (fun r38 D38 => ?_)
  exact pr_some
  exact pr_some
theorem g_X24_bit_pr {x0 x1 : Int} {D : ga_D} : ga_pr D (g_X24_bit x0 x1 D) := by
  unfold g_X24_bit
  refine g_X24_bit_l4_pr (fun x1 x2 D25 => ?_) _ _ _ _ _ 
  refine g_X24_bit_j25_pr _ _ _ 
theorem g_X24_before_l34_pr  {k85 : Int → Int → ga_D → ga_S} (hk85 : ∀ (x2 x3 : Int) (D : ga_D), ga_pr D (k85 x2 x3 D)) : ∀ (n : Nat) (x1 x2 x3 x4 : Int) (D : ga_D), ga_pr D (g_X24_before_l34 n x1 x2 x3 x4 D k85) := by
  intro n
  induction n with
  | zero => intro x1 x2 x3 x4 D; exact pr_none
  | succ n ih =>
    intro x1 x2 x3 x4 D
    show ga_pr D (if D 4876 0 ≤ x4 then (k85 x2 x3 D) else (if x4 = x1 then (ga_let (aw_or x3 0) (fun v78 => ga_let (aw_w32 (x4 + 1)) (fun v79 => g_X24_before_l34 n x1 x2 v78 v79 D k85))) else (ga_bind (g_X25_comesOff 4876 x4 D) (fun r59 D59 => if aw_and (aw_shr r59 x1) 1 ≠ 0 then (ga_let (aw_or x3 0) (fun v78 => ga_let (aw_w32 (x4 + 1)) (fun v79 => g_X24_before_l34 n x1 x2 v78 v79 D59 k85))) else (ga_let (aw_or x3 (aw_shl 1 x4)) (fun v78 => ga_let (aw_w32 (x4 + 1)) (fun v79 => g_X24_before_l34 n x1 x2 v78 v79 D59 k85)))))))
    refine pr_ite (fun c43 => ?_) (fun c43 => ?_)
    exact hk85 _ _ _ 
    refine pr_ite (fun c50 => ?_) (fun c50 => ?_)
    refine pr_let (fun v78 => ?_)
    refine pr_let (fun v79 => ?_)
    exact ih _ _ _ _ _ 
    refine pr_bind (g_X25_comesOff_pr) (fun r59 D59 => ?_)
    refine pr_ite (fun c66 => ?_) (fun c66 => ?_)
    refine pr_let (fun v78 => ?_)
    refine pr_let (fun v79 => ?_)
    exact ih _ _ _ _ _ 
    refine pr_let (fun v78 => ?_)
    refine pr_let (fun v79 => ?_)
    exact ih _ _ _ _ _ 
theorem g_X24_before_pr {x1 x2 : Int} {D : ga_D} : ga_pr D (g_X24_before x1 x2 D) := by
  unfold g_X24_before
  refine pr_bind (g_X25_isPart_pr) (fun r6 D6 => ?_)
  refine pr_ite (fun c9 => ?_) (fun c9 => ?_)
  exact pr_some
  refine pr_bind (g_X25_comesOff_pr) (fun r17 D17 => ?_)
  refine pr_ite (fun c24 => ?_) (fun c24 => ?_)
  refine g_X24_before_l34_pr (fun x2 x3 D85 => ?_) _ _ _ _ _ _ 
  refine pr_bind (g_X24_bit_pr) (fun r87 D87 => ?_)
  exact pr_some
  exact pr_some
theorem g_X25_clear_pr {x0 : Int} {D : ga_D} : ga_pr D (g_X25_clear x0 D) := by
  unfold g_X25_clear
  refine pr_ck (fun hk2_0 => ?_)
  refine pr_upd (ga_Pn hk2_0 rfl) (fun D2 => ?_)
  refine pr_upd (ga_Pn hk2_0 rfl) (fun D7 => ?_)
  exact pr_some
theorem g_X24_isBlank_pr {x0 : Int} {D : ga_D} : ga_pr D (g_X24_isBlank x0 D) := by
  unfold g_X24_isBlank
  refine pr_ite (fun c3 => ?_) (fun c3 => ?_)
  exact pr_some
  refine pr_ite (fun c9 => ?_) (fun c9 => ?_)
  exact pr_some
  exact pr_some
theorem g_X24_skip_l2_pr  {k28 : Int → ga_D → ga_S} (hk28 : ∀ (x2 : Int) (D : ga_D), ga_pr D (k28 x2 D)) : ∀ (n : Nat) (x2 : Int) (D : ga_D), ga_pr D (g_X24_skip_l2 n x2 D k28) := by
  intro n
  induction n with
  | zero => intro x2 D; exact pr_none
  | succ n ih =>
    intro x2 D
    show ga_pr D (if D 4875 3 ≤ x2 then (k28 x2 D) else (ga_ck (0 ≤ x2 ∧ x2 < 2000) (ga_bind (g_X24_isBlank (D 4926 x2) D) (fun r16 D16 => if r16 = 0 then (k28 x2 D16) else (ga_let (aw_w32 (x2 + 1)) (fun v22 => g_X24_skip_l2 n v22 D16 k28))))))
    refine pr_ite (fun c7 => ?_) (fun c7 => ?_)
    exact hk28 _ _ 
    refine pr_ck (fun ha15 => ?_)
    refine pr_bind (g_X24_isBlank_pr) (fun r16 D16 => ?_)
    refine pr_ite (fun c19 => ?_) (fun c19 => ?_)
    exact hk28 _ _ 
    refine pr_let (fun v22 => ?_)
    exact ih _ _ 
theorem g_X24_skip_pr {x1 : Int} {D : ga_D} : ga_pr D (g_X24_skip x1 D) := by
  unfold g_X24_skip
  refine g_X24_skip_l2_pr (fun x2 D28 => ?_) _ _ _ 
  exact pr_some
theorem g_X24_wordEnd_l2_pr  {k28 : Int → ga_D → ga_S} (hk28 : ∀ (x2 : Int) (D : ga_D), ga_pr D (k28 x2 D)) : ∀ (n : Nat) (x2 : Int) (D : ga_D), ga_pr D (g_X24_wordEnd_l2 n x2 D k28) := by
  intro n
  induction n with
  | zero => intro x2 D; exact pr_none
  | succ n ih =>
    intro x2 D
    show ga_pr D (if D 4875 3 ≤ x2 then (k28 x2 D) else (ga_ck (0 ≤ x2 ∧ x2 < 2000) (ga_bind (g_X24_isBlank (D 4926 x2) D) (fun r16 D16 => if r16 ≠ 0 then (k28 x2 D16) else (ga_let (aw_w32 (x2 + 1)) (fun v22 => g_X24_wordEnd_l2 n v22 D16 k28))))))
    refine pr_ite (fun c7 => ?_) (fun c7 => ?_)
    exact hk28 _ _ 
    refine pr_ck (fun ha15 => ?_)
    refine pr_bind (g_X24_isBlank_pr) (fun r16 D16 => ?_)
    refine pr_ite (fun c19 => ?_) (fun c19 => ?_)
    exact hk28 _ _ 
    refine pr_let (fun v22 => ?_)
    exact ih _ _ 
theorem g_X24_wordEnd_pr {x1 : Int} {D : ga_D} : ga_pr D (g_X24_wordEnd x1 D) := by
  unfold g_X24_wordEnd
  refine g_X24_wordEnd_l2_pr (fun x2 D28 => ?_) _ _ _ 
  exact pr_some
theorem g_X24_isWord_l25_pr  {k55 : Int → Int → ga_D → ga_S} (hk55 : ∀ (x3 x4 : Int) (D : ga_D), ga_pr D (k55 x3 x4 D)) : ∀ (n : Nat) (x1 x2 x3 x4 : Int) (D : ga_D), ga_pr D (g_X24_isWord_l25 n x1 x2 x3 x4 D k55) := by
  intro n
  induction n with
  | zero => intro x1 x2 x3 x4 D; exact pr_none
  | succ n ih =>
    intro x1 x2 x3 x4 D
    show ga_pr D (if x3 ≤ x4 then (k55 x3 x4 D) else (ga_ck (0 ≤ aw_w32 (x1 + x4) ∧ aw_w32 (x1 + x4) < 2000) (ga_bind (g_J20_charAt x2 x4 D) (fun r43 D43 => ga_ck (ga_K x2 = (69, 0)) (if D 4926 (aw_w32 (x1 + x4)) ≠ r43 then (k55 x3 x4 D43) else (ga_let (aw_w32 (x4 + 1)) (fun v49 => g_X24_isWord_l25 n x1 x2 x3 v49 D43 k55)))))))
    refine pr_ite (fun c28 => ?_) (fun c28 => ?_)
    exact hk55 _ _ _ 
    refine pr_ck (fun ha39 => ?_)
    refine pr_bind (g_J20_charAt_pr) (fun r43 D43 => ?_)
    refine pr_ck (fun hk43_0 => ?_)
    refine pr_ite (fun c46 => ?_) (fun c46 => ?_)
    exact hk55 _ _ _ 
    refine pr_let (fun v49 => ?_)
    exact ih _ _ _ _ _ 
theorem g_X24_isWord_j55_pr  (x3 x4 : Int) (D : ga_D) : ga_pr D (g_X24_isWord_j55 x3 x4 D) := by
  unfold g_X24_isWord_j55
  refine pr_ite (fun c58 => ?_) (fun c58 => ?_)
  exact pr_some
  exact pr_some
theorem g_X24_isWord_pr {x1 x2 : Int} {D : ga_D} : ga_pr D (g_X24_isWord x1 x2 D) := by
  unfold g_X24_isWord
  refine pr_bind (g_J20_length_pr) (fun r1 D1 => ?_)
  refine pr_ck (fun hk1_0 => ?_)
  refine pr_bind (g_X24_wordEnd_pr) (fun r7 D7 => ?_)
  refine pr_ite (fun c13 => ?_) (fun c13 => ?_)
  refine pr_let (fun v23 => ?_)
  refine g_X24_isWord_l25_pr (fun x3 x4 D55 => ?_) _ _ _ _ _ _ 
  refine g_X24_isWord_j55_pr _ _ _ 
  refine g_X24_isWord_l25_pr (fun x3 x4 D55 => ?_) _ _ _ _ _ _ 
  refine g_X24_isWord_j55_pr _ _ _ 
theorem g_X24_sentenceAt_l4_pr  {k47 : Int → ga_D → ga_S} (hk47 : ∀ (x2 : Int) (D : ga_D), ga_pr D (k47 x2 D)) : ∀ (n : Nat) (x1 x2 x3 : Int) (D : ga_D), ga_pr D (g_X24_sentenceAt_l4 n x1 x2 x3 D k47) := by
  intro n
  induction n with
  | zero => intro x1 x2 x3 D; exact pr_none
  | succ n ih =>
    intro x1 x2 x3 D
    show ga_pr D (if 7 ≤ x3 then (k47 x2 D) else (ga_ck (0 ≤ x3 ∧ x3 < 7) (ga_ck (ga_K (D 4927 x3) = (901, 0)) (ga_bind (g_X24_isWord x1 (D (D 4927 x3) 1) D) (fun r24 D24 => if r24 = 0 then (ga_let (aw_w32 (x3 + 1)) (fun v41 => g_X24_sentenceAt_l4 n x1 x2 v41 D24 k47)) else (ga_ck (0 ≤ x3 ∧ x3 < 7) (ga_let (D24 4927 x3) (fun v40 => ga_let (aw_w32 (x3 + 1)) (fun v41 => g_X24_sentenceAt_l4 n x1 v40 v41 D24 k47)))))))))
    refine pr_ite (fun c10 => ?_) (fun c10 => ?_)
    exact hk47 _ _ 
    refine pr_ck (fun ha20 => ?_)
    refine pr_ck (fun hk21_0 => ?_)
    refine pr_bind (g_X24_isWord_pr) (fun r24 D24 => ?_)
    refine pr_ite (fun c27 => ?_) (fun c27 => ?_)
    refine pr_let (fun v41 => ?_)
    exact ih _ _ _ _ 
    refine pr_ck (fun ha35 => ?_)
    refine pr_let (fun v40 => ?_)
    refine pr_let (fun v41 => ?_)
    exact ih _ _ _ _ 
theorem g_X24_sentenceAt_pr {x1 : Int} {D : ga_D} : ga_pr D (g_X24_sentenceAt x1 D) := by
  unfold g_X24_sentenceAt
  refine g_X24_sentenceAt_l4_pr (fun x2 D47 => ?_) _ _ _ _ _ 
  exact pr_some
theorem g_X24_canCover_l4_pr  {k53 : Int → ga_D → ga_S} (hk53 : ∀ (x2 : Int) (D : ga_D), ga_pr D (k53 x2 D)) : ∀ (n : Nat) (x1 x2 x3 : Int) (D : ga_D), ga_pr D (g_X24_canCover_l4 n x1 x2 x3 D k53) := by
  intro n
  induction n with
  | zero => intro x1 x2 x3 D; exact pr_none
  | succ n ih =>
    intro x1 x2 x3 D
    show ga_pr D (if D 4901 0 ≤ x3 then (k53 x2 D) else (if x3 = x1 then (ga_let (aw_or x2 0) (fun v46 => ga_let (aw_w32 (x3 + 1)) (fun v47 => g_X24_canCover_l4 n x1 v46 v47 D k53))) else (ga_ck (0 ≤ x3 ∧ x3 < 10) (if aw_and (aw_shr (D ((2 * x3 + 4906)) 2) x1) 1 ≠ 0 then (ga_let (aw_or x2 0) (fun v46 => ga_let (aw_w32 (x3 + 1)) (fun v47 => g_X24_canCover_l4 n x1 v46 v47 D k53))) else (ga_let (aw_or x2 1) (fun v46 => ga_let (aw_w32 (x3 + 1)) (fun v47 => g_X24_canCover_l4 n x1 v46 v47 D k53)))))))
    refine pr_ite (fun c12 => ?_) (fun c12 => ?_)
    exact hk53 _ _ 
    refine pr_ite (fun c18 => ?_) (fun c18 => ?_)
    refine pr_let (fun v46 => ?_)
    refine pr_let (fun v47 => ?_)
    exact ih _ _ _ _ 
    refine pr_ck (fun ha29 => ?_)
    refine pr_ite (fun c37 => ?_) (fun c37 => ?_)
    refine pr_let (fun v46 => ?_)
    refine pr_let (fun v47 => ?_)
    exact ih _ _ _ _ 
    refine pr_let (fun v46 => ?_)
    refine pr_let (fun v47 => ?_)
    exact ih _ _ _ _ 
theorem g_X24_canCover_pr {x1 : Int} {D : ga_D} : ga_pr D (g_X24_canCover x1 D) := by
  unfold g_X24_canCover
  refine g_X24_canCover_l4_pr (fun x2 D53 => ?_) _ _ _ _ _ 
  refine pr_ck (fun hr54 => ?_)
  exact pr_some
theorem g_X24_isOpen_pr {x1 x2 : Int} {D : ga_D} : ga_pr D (g_X24_isOpen x1 x2 D) := by
  unfold g_X24_isOpen
  refine pr_ck (fun ha8 => ?_)
  refine pr_ck (fun ha13 => ?_)
  refine pr_ite (fun c31 => ?_) (fun c31 => ?_)
  exact pr_some
  exact pr_some
theorem g_X24_canBar_l4_pr  {k25 : Int → ga_D → ga_S} (hk25 : ∀ (x2 : Int) (D : ga_D), ga_pr D (k25 x2 D)) : ∀ (n : Nat) (x1 x2 x3 : Int) (D : ga_D), ga_pr D (g_X24_canBar_l4 n x1 x2 x3 D k25) := by
  intro n
  induction n with
  | zero => intro x1 x2 x3 D; exact pr_none
  | succ n ih =>
    intro x1 x2 x3 D
    show ga_pr D (if 6 ≤ x3 then (k25 x2 D) else (ga_bind (g_X24_isOpen x1 x3 D) (fun r14 D14 => ga_let (aw_or x2 r14) (fun v18 => ga_let (aw_w32 (x3 + 1)) (fun v19 => g_X24_canBar_l4 n x1 v18 v19 D14 k25)))))
    refine pr_ite (fun c7 => ?_) (fun c7 => ?_)
    exact hk25 _ _ 
    refine pr_bind (g_X24_isOpen_pr) (fun r14 D14 => ?_)
    refine pr_let (fun v18 => ?_)
    refine pr_let (fun v19 => ?_)
    exact ih _ _ _ _ 
theorem g_X24_canBar_pr {x1 : Int} {D : ga_D} : ga_pr D (g_X24_canBar x1 D) := by
  unfold g_X24_canBar
  refine g_X24_canBar_l4_pr (fun x2 D25 => ?_) _ _ _ _ _ 
  refine pr_ck (fun hr26 => ?_)
  exact pr_some
theorem g_X24_mayBegin_j140_pr  {k95 : Int → Int → Int → ga_D → ga_S} (hk95 : ∀ (x1 x2 x3 : Int) (D : ga_D), ga_pr D (k95 x1 x2 x3 D)) (x1 x3 : Int) (D : ga_D) : ga_pr D (g_X24_mayBegin_j140 x1 x3 D k95) := by
  unfold g_X24_mayBegin_j140
  refine pr_ck (fun hn144 => ?_)
  refine pr_ite (fun c144 => ?_) (fun c144 => ?_)
  refine pr_let (fun v171 => ?_)
  exact hk95 _ _ _ _ 
  refine pr_ck (fun ha155 => ?_)
  refine pr_ite (fun c162 => ?_) (fun c162 => ?_)
  refine pr_let (fun v171 => ?_)
  exact hk95 _ _ _ _ 
  refine pr_let (fun v171 => ?_)
  exact hk95 _ _ _ _ 
theorem g_X24_mayBegin_j125_pr  {k95 : Int → Int → Int → ga_D → ga_S} (hk95 : ∀ (x1 x2 x3 : Int) (D : ga_D), ga_pr D (k95 x1 x2 x3 D)) (x1 x3 : Int) (D : ga_D) : ga_pr D (g_X24_mayBegin_j125 x1 x3 D k95) := by
  unfold g_X24_mayBegin_j125
  refine pr_ck (fun hn129 => ?_)
  refine pr_ite (fun c129 => ?_) (fun c129 => ?_)
  refine g_X24_mayBegin_j140_pr (fun x1 x2 x3 D95 => ?_) _ _ _ 
  exact hk95 _ _ _ _ 
  refine pr_bind (g_X24_canBar_pr) (fun r134 D134 => ?_)
  refine pr_ite (fun c137 => ?_) (fun c137 => ?_)
  refine pr_let (fun v171 => ?_)
  exact hk95 _ _ _ _ 
  refine g_X24_mayBegin_j140_pr (fun x1 x2 x3 D95 => ?_) _ _ _ 
  exact hk95 _ _ _ _ 
theorem g_X24_mayBegin_l95_pr  {k177 : Int → ga_D → ga_S} (hk177 : ∀ (x2 : Int) (D : ga_D), ga_pr D (k177 x2 D)) : ∀ (n : Nat) (x1 x2 x3 : Int) (D : ga_D), ga_pr D (g_X24_mayBegin_l95 n x1 x2 x3 D k177) := by
  intro n
  induction n with
  | zero => intro x1 x2 x3 D; exact pr_none
  | succ n ih =>
    intro x1 x2 x3 D
    show ga_pr D (if D 4901 0 ≤ x3 then (k177 x2 D) else (if x2 ≠ 0 then (k177 x2 D) else (ga_ck (x1 = 0 ∨ ga_K x1 = (901, 0)) (if x1 ≠ 131 then (g_X24_mayBegin_j125 x1 x3 D (fun x1 x2 x3 D95 => g_X24_mayBegin_l95 n x1 x2 x3 D95 k177)) else (ga_bind (g_X24_canCover x3 D) (fun r119 D119 => if r119 ≠ 0 then (ga_let (aw_w32 (x3 + 1)) (fun v171 => g_X24_mayBegin_l95 n x1 1 v171 D119 k177)) else (g_X24_mayBegin_j125 x1 x3 D119 (fun x1 x2 x3 D95 => g_X24_mayBegin_l95 n x1 x2 x3 D95 k177))))))))
    refine pr_ite (fun c103 => ?_) (fun c103 => ?_)
    exact hk177 _ _ 
    refine pr_ite (fun c107 => ?_) (fun c107 => ?_)
    exact hk177 _ _ 
    refine pr_ck (fun hn114 => ?_)
    refine pr_ite (fun c114 => ?_) (fun c114 => ?_)
    refine g_X24_mayBegin_j125_pr (fun x1 x2 x3 D95 => ?_) _ _ _ 
    exact ih _ _ _ _ 
    refine pr_bind (g_X24_canCover_pr) (fun r119 D119 => ?_)
    refine pr_ite (fun c122 => ?_) (fun c122 => ?_)
    refine pr_let (fun v171 => ?_)
    exact ih _ _ _ _ 
    refine g_X24_mayBegin_j125_pr (fun x1 x2 x3 D95 => ?_) _ _ _ 
    exact ih _ _ _ _ 
theorem g_X24_mayBegin_j39_pr  (x1 : Int) (D : ga_D) : ga_pr D (g_X24_mayBegin_j39 x1 D) := by
  unfold g_X24_mayBegin_j39
  refine pr_ite (fun c46 => ?_) (fun c46 => ?_)
  refine g_X24_mayBegin_l95_pr (fun x2 D177 => ?_) _ _ _ _ _ 
  refine pr_ck (fun hr178 => ?_)
  exact pr_some
  refine g_X24_mayBegin_l95_pr (fun x2 D177 => ?_) _ _ _ _ _ 
  refine pr_ck (fun hr178 => ?_)
  exact pr_some
theorem g_X24_mayBegin_pr {x1 : Int} {D : ga_D} : ga_pr D (g_X24_mayBegin x1 D) := by
  unfold g_X24_mayBegin
  refine pr_ck (fun hn4 => ?_)
  refine pr_ite (fun c4 => ?_) (fun c4 => ?_)
  refine pr_ck (fun hn29 => ?_)
  refine pr_ite (fun c29 => ?_) (fun c29 => ?_)
  refine g_X24_mayBegin_j39_pr _ _ 
  refine pr_ck (fun hn36 => ?_)
  refine pr_ite (fun c36 => ?_) (fun c36 => ?_)
  refine pr_ck (fun hn61 => ?_)
  refine pr_ite (fun c61 => ?_) (fun c61 => ?_)
  refine g_X24_mayBegin_l95_pr (fun x2 D177 => ?_) _ _ _ _ _ 
  refine pr_ck (fun hr178 => ?_)
  exact pr_some
  refine pr_ite (fun c73 => ?_) (fun c73 => ?_)
  refine g_X24_mayBegin_l95_pr (fun x2 D177 => ?_) _ _ _ _ _ 
  refine pr_ck (fun hr178 => ?_)
  exact pr_some
  refine pr_ite (fun c84 => ?_) (fun c84 => ?_)
  refine g_X24_mayBegin_l95_pr (fun x2 D177 => ?_) _ _ _ _ _ 
  refine pr_ck (fun hr178 => ?_)
  exact pr_some
  refine g_X24_mayBegin_l95_pr (fun x2 D177 => ?_) _ _ _ _ _ 
  refine pr_ck (fun hr178 => ?_)
  exact pr_some
  refine g_X24_mayBegin_j39_pr _ _ 
  refine pr_ite (fun c16 => ?_) (fun c16 => ?_)
  exact pr_some
  exact pr_some
theorem g_X24_numberAt_l30_pr  {k88 : Int → ga_D → ga_S} (hk88 : ∀ (x3 : Int) (D : ga_D), ga_pr D (k88 x3 D)) : ∀ (n : Nat) (x2 x3 x5 : Int) (D : ga_D), ga_pr D (g_X24_numberAt_l30 n x2 x3 x5 D k88) := by
  intro n
  induction n with
  | zero => intro x2 x3 x5 D; exact pr_none
  | succ n ih =>
    intro x2 x3 x5 D
    show ga_pr D (if x2 ≤ x5 then (k88 x3 D) else (if x3 < 0 then (k88 x3 D) else (ga_ck (0 ≤ x5 ∧ x5 < 2000) (ga_let (aw_w32 ((D 4926 x5) - 48)) (fun v52 => if v52 < 0 then (ga_let (aw_w32 (x5 + 1)) (fun v82 => g_X24_numberAt_l30 n x2 (-1) v82 D k88)) else (if v52 ≤ 9 then (ga_let (aw_w64 ((aw_w64 (10 * x3)) + v52)) (fun v81 => ga_let (aw_w32 (x5 + 1)) (fun v82 => g_X24_numberAt_l30 n x2 v81 v82 D k88))) else (ga_let (aw_w32 (x5 + 1)) (fun v82 => g_X24_numberAt_l30 n x2 (-1) v82 D k88))))))))
    refine pr_ite (fun c33 => ?_) (fun c33 => ?_)
    exact hk88 _ _ 
    refine pr_ite (fun c39 => ?_) (fun c39 => ?_)
    exact hk88 _ _ 
    refine pr_ck (fun ha48 => ?_)
    refine pr_let (fun v52 => ?_)
    refine pr_ite (fun c56 => ?_) (fun c56 => ?_)
    refine pr_let (fun v82 => ?_)
    exact ih _ _ _ _ 
    refine pr_ite (fun c63 => ?_) (fun c63 => ?_)
    refine pr_let (fun v81 => ?_)
    refine pr_let (fun v82 => ?_)
    exact ih _ _ _ _ 
    refine pr_let (fun v82 => ?_)
    exact ih _ _ _ _ 
theorem g_X24_numberAt_pr {x1 : Int} {D : ga_D} : ga_pr D (g_X24_numberAt x1 D) := by
  unfold g_X24_numberAt
  refine pr_bind (g_X24_wordEnd_pr) (fun r2 D2 => ?_)
  refine pr_ite (fun c8 => ?_) (fun c8 => ?_)
  refine g_X24_numberAt_l30_pr (fun x3 D88 => ?_) _ _ _ _ _ 
  exact pr_some
  refine pr_ite (fun c16 => ?_) (fun c16 => ?_)
  refine g_X24_numberAt_l30_pr (fun x3 D88 => ?_) _ _ _ _ _ 
  exact pr_some
  refine g_X24_numberAt_l30_pr (fun x3 D88 => ?_) _ _ _ _ _ 
  exact pr_some
theorem g_X26_set_l32_pr  {k51 : ga_D → ga_S} (hk51 : ∀ (D : ga_D), ga_pr D (k51 D)) : ∀ (n : Nat) (x0 x3 : Int) (D : ga_D), ga_pr D (g_X26_set_l32 n x0 x3 D k51) := by
  intro n
  induction n with
  | zero => intro x0 x3 D; exact pr_none
  | succ n ih =>
    intro x0 x3 D
    show ga_pr D (if 6 ≤ x3 then (k51 D) else (ga_ck (ga_K x0 = (24, 0)) (ga_ck (0 ≤ x3 ∧ x3 < 6) (ga_let (ga_set D ((x0 + 1)) x3 0) (fun D44 => ga_let (aw_w32 (x3 + 1)) (fun v45 => g_X26_set_l32 n x0 v45 D44 k51))))))
    refine pr_ite (fun c35 => ?_) (fun c35 => ?_)
    exact hk51 _ 
    refine pr_ck (fun hk39_0 => ?_)
    refine pr_ck (fun ha44 => ?_)
    refine pr_upd (ga_Pn (KO_24_1 hk39_0) rfl) (fun D44 => ?_)
    refine pr_let (fun v45 => ?_)
    exact ih _ _ _ 
theorem g_X26_set_pr {x0 x1 x2 : Int} {D : ga_D} : ga_pr D (g_X26_set x0 x1 x2 D) := by
  unfold g_X26_set
  refine pr_ck (fun hk2_0 => ?_)
  refine pr_upd (ga_Pn hk2_0 rfl) (fun D2 => ?_)
  refine pr_upd (ga_Pn hk2_0 rfl) (fun D7 => ?_)
  refine pr_upd (ga_Pn hk2_0 rfl) (fun D12 => ?_)
  refine pr_upd (ga_Pn hk2_0 rfl) (fun D17 => ?_)
  refine pr_upd (ga_Pn hk2_0 rfl) (fun D22 => ?_)
  refine pr_upd (ga_Pn hk2_0 rfl) (fun D27 => ?_)
  refine g_X26_set_l32_pr (fun D51 => ?_) _ _ _ _ 
  exact pr_some
theorem g_X25_part_pr {x0 x1 x3 : Int} {D : ga_D} : ga_pr D (g_X25_part x0 x1 x3 D) := by
  unfold g_X25_part
  refine pr_ck (fun hk1_0 => ?_)
  refine pr_ite (fun c6 => ?_) (fun c6 => ?_)
  exact pr_some
  refine pr_ite (fun c12 => ?_) (fun c12 => ?_)
  exact pr_some
  refine pr_ite (fun c20 => ?_) (fun c20 => ?_)
  exact pr_some
  refine pr_ite (fun c26 => ?_) (fun c26 => ?_)
  exact pr_some
  refine pr_ite (fun c34 => ?_) (fun c34 => ?_)
  refine pr_ck (fun ha47 => ?_)
  refine pr_bind (g_X26_set_pr) (fun r52 D52 => ?_)
  refine pr_upd (ga_Pn hk1_0 rfl) (fun D63 => ?_)
  exact pr_some
  exact pr_some
theorem g_X25_areTwo_pr {x0 x1 x3 : Int} {D : ga_D} : ga_pr D (g_X25_areTwo x0 x1 x3 D) := by
  unfold g_X25_areTwo
  refine pr_bind (g_X25_isPart_pr) (fun r2 D2 => ?_)
  refine pr_ck (fun hk2_0 => ?_)
  refine pr_ite (fun c5 => ?_) (fun c5 => ?_)
  exact pr_some
  refine pr_bind (g_X25_isPart_pr) (fun r10 D10 => ?_)
  refine pr_ite (fun c13 => ?_) (fun c13 => ?_)
  exact pr_some
  refine pr_ite (fun c19 => ?_) (fun c19 => ?_)
  exact pr_some
  exact pr_some
theorem g_X25_cover_pr {x0 x1 x3 : Int} {D : ga_D} : ga_pr D (g_X25_cover x0 x1 x3 D) := by
  unfold g_X25_cover
  refine pr_bind (g_X25_areTwo_pr) (fun r3 D3 => ?_)
  refine pr_ck (fun hk3_0 => ?_)
  refine pr_ite (fun c6 => ?_) (fun c6 => ?_)
  exact pr_some
  refine pr_ck (fun ha15 => ?_)
  refine pr_ite (fun c25 => ?_) (fun c25 => ?_)
  refine pr_ck (fun ha36 => ?_)
  refine pr_upd (ga_Pn (KEO_23_1 hk3_0 ha36.1 ha36.2) rfl) (fun D46 => ?_)
  exact pr_some
  exact pr_some
theorem g_X25_canWay_pr {x0 x1 x3 x5 : Int} {D : ga_D} : ga_pr D (g_X25_canWay x0 x1 x3 x5 D) := by
  unfold g_X25_canWay
  refine pr_bind (g_X25_isPart_pr) (fun r2 D2 => ?_)
  refine pr_ck (fun hk2_0 => ?_)
  refine pr_ite (fun c5 => ?_) (fun c5 => ?_)
  exact pr_some
  refine pr_bind (g_X25_isPart_pr) (fun r11 D11 => ?_)
  refine pr_ite (fun c14 => ?_) (fun c14 => ?_)
  exact pr_some
  refine pr_ite (fun c20 => ?_) (fun c20 => ?_)
  exact pr_some
  refine pr_ite (fun c28 => ?_) (fun c28 => ?_)
  exact pr_some
  exact pr_some
theorem g_X25_way_pr {x0 x1 x3 x5 : Int} {D : ga_D} : ga_pr D (g_X25_way x0 x1 x3 x5 D) := by
  unfold g_X25_way
  refine pr_ck (fun hk1_0 => ?_)
  refine pr_ck (fun ha6 => ?_)
  refine pr_ite (fun c16 => ?_) (fun c16 => ?_)
  exact pr_some
  refine pr_ck (fun ha23 => ?_)
  refine pr_ite (fun c31 => ?_) (fun c31 => ?_)
  refine pr_ck (fun ha41 => ?_)
  refine pr_ck (fun ha48 => ?_)
  refine pr_upd (ga_Pn ((congrArg ga_K (show (x0 + 2 * (aw_w32 x1) + 6) = (x0 + 2 * (aw_w32 x1) + 5) + 1 by omega)).trans (KO_24_1 (KEO_23_1 hk1_0 ha6.1 ha6.2))) rfl) (fun D48 => ?_)
  exact pr_some
  exact pr_some
theorem g_X25_fasten_pr {x0 x1 x3 x5 : Int} {D : ga_D} : ga_pr D (g_X25_fasten x0 x1 x3 x5 D) := by
  unfold g_X25_fasten
  refine pr_ck (fun hk1_0 => ?_)
  refine pr_ite (fun c6 => ?_) (fun c6 => ?_)
  exact pr_some
  refine pr_bind (g_X25_areTwo_pr) (fun r12 D12 => ?_)
  refine pr_ite (fun c15 => ?_) (fun c15 => ?_)
  exact pr_some
  refine pr_ite (fun c22 => ?_) (fun c22 => ?_)
  exact pr_some
  refine pr_ite (fun c31 => ?_) (fun c31 => ?_)
  refine pr_ck (fun ha47 => ?_)
  refine pr_upd (ga_Pn (KO_23_2 hk1_0) rfl) (fun D47 => ?_)
  refine pr_ck (fun ha59 => ?_)
  refine pr_upd (ga_Pn (KO_23_3 hk1_0) rfl) (fun D59 => ?_)
  refine pr_ck (fun ha72 => ?_)
  refine pr_upd (ga_Pn (KO_23_4 hk1_0) rfl) (fun D72 => ?_)
  refine pr_upd (ga_Pn hk1_0 rfl) (fun D81 => ?_)
  exact pr_some
  exact pr_some
theorem g_X25_hazard_pr {x0 x1 x3 : Int} {D : ga_D} : ga_pr D (g_X25_hazard x0 x1 x3 D) := by
  unfold g_X25_hazard
  refine pr_bind (g_X25_isPart_pr) (fun r2 D2 => ?_)
  refine pr_ck (fun hk2_0 => ?_)
  refine pr_ite (fun c5 => ?_) (fun c5 => ?_)
  exact pr_some
  refine pr_ite (fun c11 => ?_) (fun c11 => ?_)
  exact pr_some
  refine pr_ite (fun c19 => ?_) (fun c19 => ?_)
  exact pr_some
  refine pr_ck (fun ha28 => ?_)
  refine pr_ite (fun c38 => ?_) (fun c38 => ?_)
  refine pr_ck (fun ha49 => ?_)
  refine pr_upd (ga_Pn (KEO_23_1 hk2_0 ha49.1 ha49.2) rfl) (fun D59 => ?_)
  exact pr_some
  exact pr_some
theorem g_X25_option_pr {x0 x1 x3 : Int} {D : ga_D} : ga_pr D (g_X25_option x0 x1 x3 D) := by
  unfold g_X25_option
  refine pr_bind (g_X25_isPart_pr) (fun r2 D2 => ?_)
  refine pr_ck (fun hk2_0 => ?_)
  refine pr_ite (fun c5 => ?_) (fun c5 => ?_)
  exact pr_some
  refine pr_ite (fun c11 => ?_) (fun c11 => ?_)
  exact pr_some
  refine pr_ite (fun c19 => ?_) (fun c19 => ?_)
  exact pr_some
  refine pr_ck (fun ha28 => ?_)
  refine pr_ite (fun c35 => ?_) (fun c35 => ?_)
  refine pr_ck (fun ha46 => ?_)
  refine pr_upd (ga_Pn (KEO_23_1 hk2_0 ha46.1 ha46.2) rfl) (fun D49 => ?_)
  exact pr_some
  exact pr_some
theorem g_X25_damage_pr {x0 x1 x3 : Int} {D : ga_D} : ga_pr D (g_X25_damage x0 x1 x3 D) := by
  unfold g_X25_damage
  refine pr_bind (g_X25_isPart_pr) (fun r2 D2 => ?_)
  refine pr_ck (fun hk2_0 => ?_)
  refine pr_ite (fun c5 => ?_) (fun c5 => ?_)
  exact pr_some
  refine pr_ite (fun c11 => ?_) (fun c11 => ?_)
  exact pr_some
  refine pr_ite (fun c19 => ?_) (fun c19 => ?_)
  refine pr_ck (fun ha30 => ?_)
  refine pr_let (fun v34 => ?_)
  refine pr_ck (fun ha42 => ?_)
  refine pr_upd (ga_Pn (KEO_23_1 hk2_0 ha42.1 ha42.2) rfl) (fun D45 => ?_)
  exact pr_some
  exact pr_some
theorem g_X24_mayStand_pr {x1 x2 : Int} {D : ga_D} : ga_pr D (g_X24_mayStand x1 x2 D) := by
  unfold g_X24_mayStand
  refine pr_ck (fun ha7 => ?_)
  refine pr_let (fun v8 => ?_)
  refine pr_ck (fun hk10_0 => ?_)
  refine pr_ite (fun n13_0 => ?_) (fun n13_0 => ?_)
  refine pr_ite (fun c54 => ?_) (fun c54 => ?_)
  refine pr_ck (fun ha94 => ?_)
  refine pr_ck (fun ha100 => ?_)
  refine pr_bind (g_X25_part_pr) (fun r101 D101 => ?_)
  refine pr_ite (fun c105 => ?_) (fun c105 => ?_)
  exact pr_some
  exact pr_some
  refine pr_ite (fun c62 => ?_) (fun c62 => ?_)
  exact pr_some
  refine pr_ite (fun c74 => ?_) (fun c74 => ?_)
  exact pr_some
  exact pr_some
  refine pr_ite (fun n13_1 => ?_) (fun n13_1 => ?_)
  refine pr_ite (fun c116 => ?_) (fun c116 => ?_)
  refine pr_ck (fun ha156 => ?_)
  refine pr_ck (fun ha162 => ?_)
  refine pr_bind (g_X25_cover_pr) (fun r163 D163 => ?_)
  refine pr_ck (fun hr166 => ?_)
  exact pr_some
  refine pr_bind (g_X25_isPart_pr) (fun r124 D124 => ?_)
  refine pr_ite (fun c127 => ?_) (fun c127 => ?_)
  exact pr_some
  refine pr_bind (g_X24_canCover_pr) (fun r133 D133 => ?_)
  refine pr_ite (fun c136 => ?_) (fun c136 => ?_)
  exact pr_some
  exact pr_some
  refine pr_ite (fun n13_2 => ?_) (fun n13_2 => ?_)
  refine pr_ite (fun c169 => ?_) (fun c169 => ?_)
  refine pr_ite (fun c202 => ?_) (fun c202 => ?_)
  refine pr_ck (fun ha246 => ?_)
  refine pr_ck (fun ha252 => ?_)
  refine pr_ck (fun ha258 => ?_)
  refine pr_bind (g_X25_canWay_pr) (fun r259 D259 => ?_)
  refine pr_ite (fun c262 => ?_) (fun c262 => ?_)
  exact pr_some
  refine pr_ck (fun ha274 => ?_)
  refine pr_ck (fun ha280 => ?_)
  refine pr_ck (fun ha286 => ?_)
  refine pr_bind (g_X25_way_pr) (fun r287 D287 => ?_)
  refine pr_ite (fun c290 => ?_) (fun c290 => ?_)
  exact pr_some
  exact pr_some
  refine pr_ite (fun c210 => ?_) (fun c210 => ?_)
  exact pr_some
  refine pr_ck (fun ha219 => ?_)
  refine pr_bind (g_X24_isOpen_pr) (fun r223 D223 => ?_)
  refine pr_ite (fun c226 => ?_) (fun c226 => ?_)
  exact pr_some
  exact pr_some
  refine pr_bind (g_X25_isPart_pr) (fun r177 D177 => ?_)
  refine pr_ite (fun c180 => ?_) (fun c180 => ?_)
  exact pr_some
  refine pr_bind (g_X24_canBar_pr) (fun r186 D186 => ?_)
  refine pr_ite (fun c189 => ?_) (fun c189 => ?_)
  exact pr_some
  exact pr_some
  refine pr_ite (fun n13_3 => ?_) (fun n13_3 => ?_)
  refine pr_ite (fun c301 => ?_) (fun c301 => ?_)
  refine pr_ite (fun c348 => ?_) (fun c348 => ?_)
  refine pr_ck (fun ha377 => ?_)
  refine pr_ck (fun ha383 => ?_)
  refine pr_ck (fun ha389 => ?_)
  refine pr_bind (g_X25_fasten_pr) (fun r390 D390 => ?_)
  refine pr_ite (fun c394 => ?_) (fun c394 => ?_)
  exact pr_some
  exact pr_some
  refine pr_ck (fun ha360 => ?_)
  refine pr_bind (g_X25_areTwo_pr) (fun r362 D362 => ?_)
  refine pr_ck (fun hr402 => ?_)
  exact pr_some
  refine pr_bind (g_X25_isPart_pr) (fun r309 D309 => ?_)
  refine pr_ite (fun c312 => ?_) (fun c312 => ?_)
  exact pr_some
  refine pr_ite (fun c323 => ?_) (fun c323 => ?_)
  exact pr_some
  refine pr_ite (fun c335 => ?_) (fun c335 => ?_)
  exact pr_some
  exact pr_some
  refine pr_ite (fun n13_4 => ?_) (fun n13_4 => ?_)
  refine pr_ite (fun c405 => ?_) (fun c405 => ?_)
  refine pr_ck (fun ha455 => ?_)
  refine pr_ck (fun ha461 => ?_)
  refine pr_bind (g_X25_hazard_pr) (fun r462 D462 => ?_)
  refine pr_ck (fun hr465 => ?_)
  exact pr_some
  refine pr_bind (g_X25_isPart_pr) (fun r413 D413 => ?_)
  refine pr_ite (fun c416 => ?_) (fun c416 => ?_)
  exact pr_some
  refine pr_ck (fun ha428 => ?_)
  refine pr_ite (fun c435 => ?_) (fun c435 => ?_)
  exact pr_some
  exact pr_some
  refine pr_ite (fun n13_5 => ?_) (fun n13_5 => ?_)
  refine pr_ite (fun c468 => ?_) (fun c468 => ?_)
  refine pr_ck (fun ha491 => ?_)
  refine pr_ck (fun ha497 => ?_)
  refine pr_bind (g_X25_option_pr) (fun r498 D498 => ?_)
  refine pr_ck (fun hr501 => ?_)
  exact pr_some
  refine pr_bind (g_X25_isPart_pr) (fun r476 D476 => ?_)
  refine pr_ck (fun hr501 => ?_)
  exact pr_some
  refine pr_ite (fun c504 => ?_) (fun c504 => ?_)
  refine pr_ck (fun ha527 => ?_)
  refine pr_ck (fun ha533 => ?_)
  refine pr_bind (g_X25_damage_pr) (fun r534 D534 => ?_)
  refine pr_ite (fun c538 => ?_) (fun c538 => ?_)
  exact pr_some
  exact pr_some
  refine pr_bind (g_X25_isPart_pr) (fun r512 D512 => ?_)
  refine pr_ck (fun hr546 => ?_)
  exact pr_some
theorem g_X24_wrong_j87_pr  {k110 : Int → ga_D → ga_S} {k53 : Int → Int → Int → ga_D → ga_S} (hk110 : ∀ (x1 : Int) (D : ga_D), ga_pr D (k110 x1 D)) (hk53 : ∀ (x1 x2 x3 : Int) (D : ga_D), ga_pr D (k53 x1 x2 x3 D)) (x1 x2 x3 s0 s1 s2 : Int) (D : ga_D) : ga_pr D (g_X24_wrong_j87 x1 x2 x3 s0 s1 s2 D k110 k53) := by
  unfold g_X24_wrong_j87
  refine pr_ck (fun ha87_0 => ?_)
  refine pr_ck (fun hg87_1 => ?_)
  refine pr_ck (fun ha87 => ?_)
  refine pr_upd (ga_Pn (ga_kp ha87_0) rfl) (fun D87 => ?_)
  refine pr_ck (fun ha95 => ?_)
  refine pr_ite (fun c98 => ?_) (fun c98 => ?_)
  exact hk110 _ _ 
  refine pr_bind (g_X24_mayStand_pr) (fun r104 D104 => ?_)
  refine pr_ite (fun c107 => ?_) (fun c107 => ?_)
  refine pr_bind (g_X24_wordEnd_pr) (fun r115 D115 => ?_)
  refine pr_bind (g_X24_skip_pr) (fun r118 D118 => ?_)
  refine pr_let (fun v122 => ?_)
  exact hk53 _ _ _ _ 
  exact hk110 _ _ 
theorem g_X24_wrong_l53_pr  {k110 : Int → ga_D → ga_S} {k128 : Int → ga_D → ga_S} (hk110 : ∀ (x1 : Int) (D : ga_D), ga_pr D (k110 x1 D)) (hk128 : ∀ (x1 : Int) (D : ga_D), ga_pr D (k128 x1 D)) : ∀ (n : Nat) (x1 x2 x3 : Int) (D : ga_D), ga_pr D (g_X24_wrong_l53 n x1 x2 x3 D k110 k128) := by
  intro n
  induction n with
  | zero => intro x1 x2 x3 D; exact pr_none
  | succ n ih =>
    intro x1 x2 x3 D
    show ga_pr D (ga_ck (ga_K x2 = (901, 0)) (if D x2 2 < x3 then (k128 x1 D) else (if D 4875 3 ≤ x1 then (g_X24_wrong_j87 x1 x2 x3 (-1) (aw_w32 (x3 - 1)) 4928 D (fun x1 D110 => k110 x1 D110) (fun x1 x2 x3 D53 => g_X24_wrong_l53 n x1 x2 x3 D53 k110 k128)) else (ga_bind (g_X24_numberAt x1 D) (fun r78 D78 => g_X24_wrong_j87 x1 x2 x3 r78 (aw_w32 (x3 - 1)) 4928 D78 (fun x1 D110 => k110 x1 D110) (fun x1 x2 x3 D53 => g_X24_wrong_l53 n x1 x2 x3 D53 k110 k128))))))
    refine pr_ck (fun hk55_0 => ?_)
    refine pr_ite (fun c58 => ?_) (fun c58 => ?_)
    exact hk128 _ _ 
    refine pr_ite (fun c73 => ?_) (fun c73 => ?_)
    refine g_X24_wrong_j87_pr (fun x1 D110 => ?_) (fun x1 x2 x3 D53 => ?_) _ _ _ _ _ _ _ 
    exact hk110 _ _ 
    exact ih _ _ _ _ 
    refine pr_bind (g_X24_numberAt_pr) (fun r78 D78 => ?_)
    refine g_X24_wrong_j87_pr (fun x1 D110 => ?_) (fun x1 x2 x3 D53 => ?_) _ _ _ _ _ _ _ 
    exact hk110 _ _ 
    exact ih _ _ _ _ 
theorem g_X24_wrong_l13_pr  {k39 : Int → ga_D → ga_S} {k110 : Int → ga_D → ga_S} {k131 : ga_D → ga_S} (hk39 : ∀ (x1 : Int) (D : ga_D), ga_pr D (k39 x1 D)) (hk110 : ∀ (x1 : Int) (D : ga_D), ga_pr D (k110 x1 D)) (hk131 : ∀ (D : ga_D), ga_pr D (k131 D)) : ∀ (n : Nat) (x1 : Int) (D : ga_D), ga_pr D (g_X24_wrong_l13 n x1 D k39 k110 k131) := by
  intro n
  induction n with
  | zero => intro x1 D; exact pr_none
  | succ n ih =>
    intro x1 D
    show ga_pr D (if D 4875 3 ≤ x1 then (k131 D) else (ga_bind (g_X24_sentenceAt x1 D) (fun r23 D23 => if r23 = 0 then (k39 x1 D23) else (ga_bind (g_X24_mayBegin r23 D23) (fun r33 D33 => if r33 ≠ 0 then (ga_bind (g_X24_wordEnd x1 D33) (fun r44 D44 => ga_bind (g_X24_skip r44 D44) (fun r47 D47 => g_X24_wrong_l53 aw_fu r47 r23 1 D47 (fun x1 D110 => k110 x1 D110) (fun x1 D128 => g_X24_wrong_l13 n x1 D128 k39 k110 k131)))) else (k39 x1 D33))))))
    refine pr_ite (fun c18 => ?_) (fun c18 => ?_)
    exact hk131 _ 
    refine pr_bind (g_X24_sentenceAt_pr) (fun r23 D23 => ?_)
    refine pr_ite (fun c28 => ?_) (fun c28 => ?_)
    exact hk39 _ _ 
    refine pr_bind (g_X24_mayBegin_pr) (fun r33 D33 => ?_)
    refine pr_ite (fun c36 => ?_) (fun c36 => ?_)
    refine pr_bind (g_X24_wordEnd_pr) (fun r44 D44 => ?_)
    refine pr_bind (g_X24_skip_pr) (fun r47 D47 => ?_)
    refine g_X24_wrong_l53_pr (fun x1 D110 => ?_) (fun x1 D128 => ?_) _ _ _ _ _ 
    exact hk110 _ _ 
    exact ih _ _ 
    exact hk39 _ _ 
theorem g_X24_wrong_pr {D : ga_D} : ga_pr D (g_X24_wrong D) := by
  unfold g_X24_wrong
  refine pr_bind (g_X25_clear_pr) (fun r4 D4 => ?_)
  refine pr_bind (g_X24_skip_pr) (fun r9 D9 => ?_)
  refine g_X24_wrong_l13_pr (fun x1 D39 => ?_) (fun x1 D110 => ?_) (fun D131 => ?_) _ _ _ 
  exact pr_some
  exact pr_some
  exact pr_some
theorem g_X26_copy_pr {x0 x1 : Int} {D : ga_D} : ga_pr D (g_X26_copy x0 x1 D) := by
  unfold g_X26_copy
  refine pr_ck (fun hk2_0 => ?_)
  refine pr_bind (g_X26_set_pr) (fun r9 D9 => ?_)
  refine pr_ck (fun hk9_1 => ?_)
  refine pr_upd (ga_Pn hk9_1 rfl) (fun D17 => ?_)
  refine pr_upd (ga_Pn hk9_1 rfl) (fun D25 => ?_)
  refine pr_upd (ga_Pn hk9_1 rfl) (fun D33 => ?_)
  refine pr_upd (ga_Pn hk9_1 rfl) (fun D41 => ?_)
  refine pr_ck (fun ha56 => ?_)
  refine pr_cpy (fun _ => ga_Pn (KO_24_1 hk9_1) rfl) (fun D56 => ?_)
  exact pr_some
theorem g_X25_copy_l18_pr  {k47 : Int → Int → ga_D → ga_S} (hk47 : ∀ (x0 x1 : Int) (D : ga_D), ga_pr D (k47 x0 x1 D)) : ∀ (n : Nat) (x0 x1 x2 : Int) (D : ga_D), ga_pr D (g_X25_copy_l18 n x0 x1 x2 D k47) := by
  intro n
  induction n with
  | zero => intro x0 x1 x2 D; exact pr_none
  | succ n ih =>
    intro x0 x1 x2 D
    show ga_pr D (ga_ck (ga_K x0 = (23, 0)) (if D x0 0 ≤ x2 then (k47 x0 x1 D) else (ga_ck (0 ≤ x2 ∧ x2 < 10) (ga_ck (ga_K x1 = (23, 0)) (ga_ck (0 ≤ x2 ∧ x2 < 10) (ga_bind (g_X26_copy ((x0 + 2 * x2 + 5)) ((x1 + 2 * x2 + 5)) D) (fun r38 D38 => ga_let (aw_w32 (x2 + 1)) (fun v41 => g_X25_copy_l18 n x0 x1 v41 D38 k47))))))))
    refine pr_ck (fun hk20_0 => ?_)
    refine pr_ite (fun c23 => ?_) (fun c23 => ?_)
    exact hk47 _ _ _ 
    refine pr_ck (fun ha31 => ?_)
    refine pr_ck (fun hk33_0 => ?_)
    refine pr_ck (fun ha37 => ?_)
    refine pr_bind (g_X26_copy_pr) (fun r38 D38 => ?_)
    refine pr_let (fun v41 => ?_)
    exact ih _ _ _ _ 
theorem g_X25_copy_pr {x0 x1 : Int} {D : ga_D} : ga_pr D (g_X25_copy x0 x1 D) := by
  unfold g_X25_copy
  refine pr_ck (fun hk2_0 => ?_)
  refine pr_ck (fun hk5_1 => ?_)
  refine pr_upd (ga_Pn hk5_1 rfl) (fun D5 => ?_)
  refine pr_upd (ga_Pn hk5_1 rfl) (fun D13 => ?_)
  refine g_X25_copy_l18_pr (fun x0 x1 D47 => ?_) _ _ _ _ _ 
  refine pr_ck (fun hk48_0 => ?_)
  refine pr_ck (fun hk53_1 => ?_)
  refine pr_ck (fun ha61 => ?_)
  refine pr_cpy (fun _ => ga_Pn (KO_23_2 hk53_1) rfl) (fun D61 => ?_)
  refine pr_ck (fun ha78 => ?_)
  refine pr_cpy (fun _ => ga_Pn (KO_23_3 hk53_1) rfl) (fun D78 => ?_)
  refine pr_ck (fun ha95 => ?_)
  refine pr_cpy (fun _ => ga_Pn (KO_23_4 hk53_1) rfl) (fun D95 => ?_)
  exact pr_some
theorem g_X24_read_pr {D : ga_D} : ga_pr D (g_X24_read D) := by
  unfold g_X24_read
  refine pr_bind (g_X24_wrong_pr) (fun r1 D1 => ?_)
  refine pr_upd (ga_Pn K_4875 rfl) (fun D7 => ?_)
  refine pr_ite (fun c12 => ?_) (fun c12 => ?_)
  refine pr_bind (g_X25_copy_pr) (fun r27 D27 => ?_)
  exact pr_some
  exact pr_some
theorem g_X24_part_pr {x1 x2 : Int} {D : ga_D} : ga_pr D (g_X24_part x1 x2 D) := by
  unfold g_X24_part
  refine pr_bind (g_X25_part_pr) (fun r7 D7 => ?_)
  exact pr_some
theorem g_X24_fasten_pr {x1 x2 x3 : Int} {D : ga_D} : ga_pr D (g_X24_fasten x1 x2 x3 D) := by
  unfold g_X24_fasten
  refine pr_bind (g_X25_fasten_pr) (fun r10 D10 => ?_)
  exact pr_some
theorem g_X24_cover_pr {x1 x2 : Int} {D : ga_D} : ga_pr D (g_X24_cover x1 x2 D) := by
  unfold g_X24_cover
  refine pr_bind (g_X25_cover_pr) (fun r8 D8 => ?_)
  refine pr_ck (fun hr11 => ?_)
  exact pr_some
theorem g_X24_way_pr {x1 x2 x3 : Int} {D : ga_D} : ga_pr D (g_X24_way x1 x2 x3 D) := by
  unfold g_X24_way
  refine pr_bind (g_X25_canWay_pr) (fun r10 D10 => ?_)
  refine pr_ite (fun c13 => ?_) (fun c13 => ?_)
  refine pr_bind (g_X25_way_pr) (fun r36 D36 => ?_)
  refine pr_ck (fun hr39 => ?_)
  exact pr_some
  exact pr_some
theorem g_X24_all_pr {D : ga_D} : ga_pr D (g_X24_all D) := by
  unfold g_X24_all
  exact pr_some
theorem g_X24_ring_pr {x1 : Int} {D : ga_D} : ga_pr D (g_X24_ring x1 D) := by
  unfold g_X24_ring
  refine pr_bind (g_X24_all_pr) (fun r1 D1 => ?_)
  refine pr_bind (g_X25_comesOff_pr) (fun r9 D9 => ?_)
  refine pr_bind (g_X24_bit_pr) (fun r16 D16 => ?_)
  exact pr_some
theorem g_X24_option_pr {x1 x2 : Int} {D : ga_D} : ga_pr D (g_X24_option x1 x2 D) := by
  unfold g_X24_option
  refine pr_bind (g_X25_option_pr) (fun r8 D8 => ?_)
  refine pr_ck (fun hr11 => ?_)
  exact pr_some
theorem g_X24_familySet_l4_pr  {k47 : Int → ga_D → ga_S} (hk47 : ∀ (x2 : Int) (D : ga_D), ga_pr D (k47 x2 D)) : ∀ (n : Nat) (x1 x2 x3 : Int) (D : ga_D), ga_pr D (g_X24_familySet_l4 n x1 x2 x3 D k47) := by
  intro n
  induction n with
  | zero => intro x1 x2 x3 D; exact pr_none
  | succ n ih =>
    intro x1 x2 x3 D
    show ga_pr D (if D 4876 0 ≤ x3 then (k47 x2 D) else (ga_ck (0 ≤ x3 ∧ x3 < 10) (if D ((2 * x3 + 4881)) 5 ≠ x1 then (ga_let (aw_or x2 0) (fun v40 => ga_let (aw_w32 (x3 + 1)) (fun v41 => g_X24_familySet_l4 n x1 v40 v41 D k47))) else (ga_let (aw_or x2 (aw_shl 1 x3)) (fun v40 => ga_let (aw_w32 (x3 + 1)) (fun v41 => g_X24_familySet_l4 n x1 v40 v41 D k47))))))
    refine pr_ite (fun c12 => ?_) (fun c12 => ?_)
    exact hk47 _ _ 
    refine pr_ck (fun ha24 => ?_)
    refine pr_ite (fun c29 => ?_) (fun c29 => ?_)
    refine pr_let (fun v40 => ?_)
    refine pr_let (fun v41 => ?_)
    exact ih _ _ _ _ 
    refine pr_let (fun v40 => ?_)
    refine pr_let (fun v41 => ?_)
    exact ih _ _ _ _ 
theorem g_X24_familySet_pr {x1 : Int} {D : ga_D} : ga_pr D (g_X24_familySet x1 D) := by
  unfold g_X24_familySet
  refine g_X24_familySet_l4_pr (fun x2 D47 => ?_) _ _ _ _ _ 
  exact pr_some
theorem g_X24_family_l12_pr  {k68 : Int → Int → Int → ga_D → ga_S} (hk68 : ∀ (x2 x3 x4 : Int) (D : ga_D), ga_pr D (k68 x2 x3 x4 D)) : ∀ (n : Nat) (x2 x3 x4 x5 : Int) (D : ga_D), ga_pr D (g_X24_family_l12 n x2 x3 x4 x5 D k68) := by
  intro n
  induction n with
  | zero => intro x2 x3 x4 x5 D; exact pr_none
  | succ n ih =>
    intro x2 x3 x4 x5 D
    show ga_pr D (if x5 < 0 then (k68 x2 x3 x4 D) else (if x3 < 0 then (k68 x2 x3 x4 D) else (ga_bind (g_X24_familySet x5 D) (fun r24 D24 => ga_bind (g_J25_bitCount r24 D24) (fun r31 D31 => if r31 ≤ 0 then (ga_let (aw_w32 (x5 + (-1))) (fun v62 => g_X24_family_l12 n x2 x3 x4 v62 D31 k68)) else (ga_ck (r31 ≠ 0) (ga_bind (g_X24_bit r24 (Int.tmod x3 r31) D31) (fun r50 D50 => ga_let (aw_or x4 (aw_shl 1 r50)) (fun v55 => ga_ck (r31 ≠ 0) (ga_let (aw_w32 (Int.tdiv x3 r31)) (fun v61 => ga_let (aw_w32 (x5 + (-1))) (fun v62 => g_X24_family_l12 n x2 v61 v55 v62 D50 k68))))))))))))
    refine pr_ite (fun c14 => ?_) (fun c14 => ?_)
    exact hk68 _ _ _ _ 
    refine pr_ite (fun c18 => ?_) (fun c18 => ?_)
    exact hk68 _ _ _ _ 
    refine pr_bind (g_X24_familySet_pr) (fun r24 D24 => ?_)
    refine pr_bind (g_J25_bitCount_pr) (fun r31 D31 => ?_)
    refine pr_ite (fun c38 => ?_) (fun c38 => ?_)
    refine pr_let (fun v62 => ?_)
    exact ih _ _ _ _ _ 
    refine pr_ck (fun hz49 => ?_)
    refine pr_bind (g_X24_bit_pr) (fun r50 D50 => ?_)
    refine pr_let (fun v55 => ?_)
    refine pr_ck (fun hz60 => ?_)
    refine pr_let (fun v61 => ?_)
    refine pr_let (fun v62 => ?_)
    exact ih _ _ _ _ _ 
theorem g_X24_family_j68_pr  (x2 x3 x4 : Int) (D : ga_D) : ga_pr D (g_X24_family_j68 x2 x3 x4 D) := by
  unfold g_X24_family_j68
  refine pr_ite (fun c69 => ?_) (fun c69 => ?_)
  refine pr_bind (g_X24_bit_pr) (fun r79 D79 => ?_)
  exact pr_some
  exact pr_some
theorem g_X24_family_pr {x1 x2 : Int} {D : ga_D} : ga_pr D (g_X24_family x1 x2 D) := by
  unfold g_X24_family
  refine pr_bind (g_X24_familySet_pr) (fun r4 D4 => ?_)
  refine g_X24_family_l12_pr (fun x2 x3 x4 D68 => ?_) _ _ _ _ _ _ 
  refine g_X24_family_j68_pr _ _ _ _ 
theorem g_X25_hanging_l19_pr  {k78 : Int → Int → Int → Int → ga_D → ga_S} (hk78 : ∀ (x0 x2 x3 x4 : Int) (D : ga_D), ga_pr D (k78 x0 x2 x3 x4 D)) : ∀ (n : Nat) (x0 x2 x3 x4 x5 : Int) (D : ga_D), ga_pr D (g_X25_hanging_l19 n x0 x2 x3 x4 x5 D k78) := by
  intro n
  induction n with
  | zero => intro x0 x2 x3 x4 x5 D; exact pr_none
  | succ n ih =>
    intro x0 x2 x3 x4 x5 D
    show ga_pr D (ga_ck (ga_K x0 = (23, 0)) (if D x0 2 ≤ x5 then (k78 x0 x2 x3 x4 D) else (ga_ck (0 ≤ x5 ∧ x5 < 20) (ga_ck (0 ≤ x5 ∧ x5 < 20) (ga_let (aw_or (aw_shl 1 (D ((x0 + 2)) x5)) (aw_shl 1 (D ((x0 + 3)) x5))) (fun v47 => if aw_and v47 x2 ≠ 0 then (ga_let (aw_or x3 0) (fun v71 => ga_let (aw_w32 (x5 + 1)) (fun v72 => g_X25_hanging_l19 n x0 x2 v71 x4 v72 D k78))) else (if aw_and v47 x3 = 0 then (ga_let (aw_or x3 0) (fun v71 => ga_let (aw_w32 (x5 + 1)) (fun v72 => g_X25_hanging_l19 n x0 x2 v71 x4 v72 D k78))) else (ga_let (aw_or x3 v47) (fun v71 => ga_let (aw_w32 (x5 + 1)) (fun v72 => g_X25_hanging_l19 n x0 x2 v71 x4 v72 D k78))))))))))
    refine pr_ck (fun hk22_0 => ?_)
    refine pr_ite (fun c25 => ?_) (fun c25 => ?_)
    exact hk78 _ _ _ _ _ 
    refine pr_ck (fun ha35 => ?_)
    refine pr_ck (fun ha44 => ?_)
    refine pr_let (fun v47 => ?_)
    refine pr_ite (fun c54 => ?_) (fun c54 => ?_)
    refine pr_let (fun v71 => ?_)
    refine pr_let (fun v72 => ?_)
    exact ih _ _ _ _ _ _ 
    refine pr_ite (fun c61 => ?_) (fun c61 => ?_)
    refine pr_let (fun v71 => ?_)
    refine pr_let (fun v72 => ?_)
    exact ih _ _ _ _ _ _ 
    refine pr_let (fun v71 => ?_)
    refine pr_let (fun v72 => ?_)
    exact ih _ _ _ _ _ _ 
theorem g_X25_hanging_l7_pr  {k81 : Int → ga_D → ga_S} (hk81 : ∀ (x3 : Int) (D : ga_D), ga_pr D (k81 x3 D)) : ∀ (n : Nat) (x0 x2 x3 x4 : Int) (D : ga_D), ga_pr D (g_X25_hanging_l7 n x0 x2 x3 x4 D k81) := by
  intro n
  induction n with
  | zero => intro x0 x2 x3 x4 D; exact pr_none
  | succ n ih =>
    intro x0 x2 x3 x4 D
    show ga_pr D (if x3 = x4 then (k81 x3 D) else (g_X25_hanging_l19 aw_fu x0 x2 x3 x3 0 D (fun x0 x2 x3 x4 D78 => g_X25_hanging_l7 n x0 x2 x3 x4 D78 k81)))
    refine pr_ite (fun c10 => ?_) (fun c10 => ?_)
    exact hk81 _ _ 
    refine g_X25_hanging_l19_pr (fun x0 x2 x3 x4 D78 => ?_) _ _ _ _ _ _ _ 
    exact ih _ _ _ _ _ 
theorem g_X25_hanging_pr {x0 x1 x2 : Int} {D : ga_D} : ga_pr D (g_X25_hanging x0 x1 x2 D) := by
  unfold g_X25_hanging
  refine pr_let (fun v3 => ?_)
  refine g_X25_hanging_l7_pr (fun x3 D81 => ?_) _ _ _ _ _ _ 
  exact pr_some
theorem g_X24_holds_j45_pr  (x1 x2 x3 s0 : Int) (D : ga_D) : ga_pr D (g_X24_holds_j45 x1 x2 x3 s0 D) := by
  unfold g_X24_holds_j45
  refine pr_ite (fun c49 => ?_) (fun c49 => ?_)
  exact pr_some
  refine pr_bind (g_X25_hanging_pr) (fun r58 D58 => ?_)
  refine pr_ite (fun c66 => ?_) (fun c66 => ?_)
  exact pr_some
  exact pr_some
theorem g_X24_holds_j44_pr  (x1 x2 x3 : Int) (D : ga_D) : ga_pr D (g_X24_holds_j44 x1 x2 x3 D) := by
  unfold g_X24_holds_j44
  refine g_X24_holds_j45_pr _ _ _ _ _ 
theorem g_X24_holds_pr {x1 x2 x3 : Int} {D : ga_D} : ga_pr D (g_X24_holds x1 x2 x3 D) := by
  unfold g_X24_holds
  refine pr_bind (g_X25_isPart_pr) (fun r6 D6 => ?_)
  refine pr_ite (fun c9 => ?_) (fun c9 => ?_)
  refine g_X24_holds_j44_pr _ _ _ _ 
  refine pr_bind (g_X25_isPart_pr) (fun r18 D18 => ?_)
  refine pr_ite (fun c21 => ?_) (fun c21 => ?_)
  refine g_X24_holds_j44_pr _ _ _ _ 
  refine pr_ite (fun c29 => ?_) (fun c29 => ?_)
  refine g_X24_holds_j44_pr _ _ _ _ 
  refine pr_ite (fun c37 => ?_) (fun c37 => ?_)
  refine g_X24_holds_j44_pr _ _ _ _ 
  refine g_X24_holds_j45_pr _ _ _ _ _ 
theorem g_X26_isAlike_pr {x0 x1 : Int} {D : ga_D} : ga_pr D (g_X26_isAlike x0 x1 D) := by
  unfold g_X26_isAlike
  refine pr_ck (fun hk1_0 => ?_)
  refine pr_ck (fun hk5_1 => ?_)
  refine pr_ite (fun c8 => ?_) (fun c8 => ?_)
  exact pr_some
  refine pr_ite (fun c19 => ?_) (fun c19 => ?_)
  exact pr_some
  refine pr_ite (fun c30 => ?_) (fun c30 => ?_)
  exact pr_some
  exact pr_some
theorem g_X24_alike_l19_pr  {k79 : Int → Int → ga_D → ga_S} (hk79 : ∀ (x2 x3 : Int) (D : ga_D), ga_pr D (k79 x2 x3 D)) : ∀ (n : Nat) (x1 x2 x3 x4 : Int) (D : ga_D), ga_pr D (g_X24_alike_l19 n x1 x2 x3 x4 D k79) := by
  intro n
  induction n with
  | zero => intro x1 x2 x3 x4 D; exact pr_none
  | succ n ih =>
    intro x1 x2 x3 x4 D
    show ga_pr D (if D 4876 0 ≤ x4 then (k79 x2 x3 D) else (if x4 = x1 then (ga_let (aw_or x3 0) (fun v72 => ga_let (aw_w32 (x4 + 1)) (fun v73 => g_X24_alike_l19 n x1 x2 v72 v73 D k79))) else (ga_ck (0 ≤ x4 ∧ x4 < 10) (ga_ck (0 ≤ x1 ∧ x1 < 10) (ga_bind (g_X26_isAlike ((2 * x4 + 4881)) ((2 * x1 + 4881)) D) (fun r57 D57 => if r57 = 0 then (ga_let (aw_or x3 0) (fun v72 => ga_let (aw_w32 (x4 + 1)) (fun v73 => g_X24_alike_l19 n x1 x2 v72 v73 D57 k79))) else (ga_let (aw_or x3 (aw_shl 1 x4)) (fun v72 => ga_let (aw_w32 (x4 + 1)) (fun v73 => g_X24_alike_l19 n x1 x2 v72 v73 D57 k79)))))))))
    refine pr_ite (fun c28 => ?_) (fun c28 => ?_)
    exact hk79 _ _ _ 
    refine pr_ite (fun c35 => ?_) (fun c35 => ?_)
    refine pr_let (fun v72 => ?_)
    refine pr_let (fun v73 => ?_)
    exact ih _ _ _ _ _ 
    refine pr_ck (fun ha47 => ?_)
    refine pr_ck (fun ha56 => ?_)
    refine pr_bind (g_X26_isAlike_pr) (fun r57 D57 => ?_)
    refine pr_ite (fun c60 => ?_) (fun c60 => ?_)
    refine pr_let (fun v72 => ?_)
    refine pr_let (fun v73 => ?_)
    exact ih _ _ _ _ _ 
    refine pr_let (fun v72 => ?_)
    refine pr_let (fun v73 => ?_)
    exact ih _ _ _ _ _ 
theorem g_X24_alike_pr {x1 x2 : Int} {D : ga_D} : ga_pr D (g_X24_alike x1 x2 D) := by
  unfold g_X24_alike
  refine pr_bind (g_X25_isPart_pr) (fun r6 D6 => ?_)
  refine pr_ite (fun c9 => ?_) (fun c9 => ?_)
  refine g_X24_alike_l19_pr (fun x2 x3 D79 => ?_) _ _ _ _ _ _ 
  refine pr_bind (g_X24_bit_pr) (fun r81 D81 => ?_)
  exact pr_some
  exact pr_some
theorem g_X24_weight_l38_pr  {k87 : Int → ga_D → ga_S} (hk87 : ∀ (x3 : Int) (D : ga_D), ga_pr D (k87 x3 D)) : ∀ (n : Nat) (x2 x3 x5 : Int) (D : ga_D), ga_pr D (g_X24_weight_l38 n x2 x3 x5 D k87) := by
  intro n
  induction n with
  | zero => intro x2 x3 x5 D; exact pr_none
  | succ n ih =>
    intro x2 x3 x5 D
    show ga_pr D (if D 4876 0 ≤ x5 then (k87 x3 D) else (if aw_and (aw_shr x2 x5) 1 ≠ 1 then (ga_let (aw_w64 (x3 + 0)) (fun v80 => ga_let (aw_w32 (x5 + 1)) (fun v81 => g_X24_weight_l38 n x2 v80 v81 D k87))) else (ga_ck (0 ≤ x5 ∧ x5 < 10) (ga_let (aw_w64 (x3 + (D ((2 * x5 + 4881)) 1))) (fun v80 => ga_let (aw_w32 (x5 + 1)) (fun v81 => g_X24_weight_l38 n x2 v80 v81 D k87))))))
    refine pr_ite (fun c47 => ?_) (fun c47 => ?_)
    exact hk87 _ _ 
    refine pr_ite (fun c58 => ?_) (fun c58 => ?_)
    refine pr_let (fun v80 => ?_)
    refine pr_let (fun v81 => ?_)
    exact ih _ _ _ _ 
    refine pr_ck (fun ha70 => ?_)
    refine pr_let (fun v80 => ?_)
    refine pr_let (fun v81 => ?_)
    exact ih _ _ _ _ 
theorem g_X24_weight_pr {x1 : Int} {D : ga_D} : ga_pr D (g_X24_weight x1 D) := by
  unfold g_X24_weight
  refine pr_bind (g_X25_isPart_pr) (fun r6 D6 => ?_)
  refine pr_ite (fun c9 => ?_) (fun c9 => ?_)
  refine pr_bind (g_X25_hanging_pr) (fun r29 D29 => ?_)
  refine g_X24_weight_l38_pr (fun x3 D87 => ?_) _ _ _ _ _ 
  exact pr_some
  exact pr_some
theorem g_X24_hazard_pr {x1 x2 : Int} {D : ga_D} : ga_pr D (g_X24_hazard x1 x2 D) := by
  unfold g_X24_hazard
  refine pr_bind (g_X25_hazard_pr) (fun r8 D8 => ?_)
  refine pr_ck (fun hr11 => ?_)
  exact pr_some
theorem g_X24_damage_pr {x1 x2 : Int} {D : ga_D} : ga_pr D (g_X24_damage x1 x2 D) := by
  unfold g_X24_damage
  refine pr_bind (g_X25_damage_pr) (fun r8 D8 => ?_)
  exact pr_some
theorem g_X24_free_pr {x1 x2 : Int} {D : ga_D} : ga_pr D (g_X24_free x1 x2 D) := by
  unfold g_X24_free
  refine pr_bind (g_X25_isPart_pr) (fun r6 D6 => ?_)
  refine pr_ite (fun c9 => ?_) (fun c9 => ?_)
  exact pr_some
  refine pr_ite (fun c19 => ?_) (fun c19 => ?_)
  exact pr_some
  refine pr_ck (fun ha30 => ?_)
  refine pr_bind (g_X26_isFree_pr) (fun r33 D33 => ?_)
  refine pr_ite (fun c36 => ?_) (fun c36 => ?_)
  exact pr_some
  exact pr_some
theorem g_X24_plain_pr {x1 x2 : Int} {D : ga_D} : ga_pr D (g_X24_plain x1 x2 D) := by
  unfold g_X24_plain
  refine pr_bind (g_X25_isPart_pr) (fun r6 D6 => ?_)
  refine pr_ite (fun c9 => ?_) (fun c9 => ?_)
  exact pr_some
  refine pr_ite (fun c19 => ?_) (fun c19 => ?_)
  exact pr_some
  refine pr_ck (fun ha30 => ?_)
  refine pr_bind (g_X26_isPlain_pr) (fun r33 D33 => ?_)
  refine pr_ite (fun c36 => ?_) (fun c36 => ?_)
  exact pr_some
  exact pr_some
theorem g_X24_say_2_l2_pr  {k38 : ga_D → ga_S} (hk38 : ∀ (D : ga_D), ga_pr D (k38 D)) : ∀ (n : Nat) (x1 x2 : Int) (D : ga_D), ga_pr D (g_X24_say_2_l2 n x1 x2 D k38) := by
  intro n
  induction n with
  | zero => intro x1 x2 D; exact pr_none
  | succ n ih =>
    intro x1 x2 D
    show ga_pr D (ga_bind (g_J20_length x1 D) (fun r4 D4 => ga_ck (ga_K x1 = (69, 0)) (if r4 ≤ x2 then (k38 D4) else (ga_let (ga_set D4 4875 7 (aw_w32 ((D4 4875 7) + 1))) (fun D22 => ga_bind (g_J20_charAt x1 x2 D22) (fun r27 D27 => ga_ck (0 ≤ D4 4875 7 ∧ D4 4875 7 < 8000 ∧ (-128) ≤ aw_i2b r27 ∧ aw_i2b r27 < 128) (ga_let (ga_set D27 4929 (D4 4875 7) (aw_i2b r27)) (fun D31 => ga_let (aw_w32 (x2 + 1)) (fun v32 => g_X24_say_2_l2 n x1 v32 D31 k38)))))))))
    refine pr_bind (g_J20_length_pr) (fun r4 D4 => ?_)
    refine pr_ck (fun hk4_0 => ?_)
    refine pr_ite (fun c7 => ?_) (fun c7 => ?_)
    exact hk38 _ 
    refine pr_upd (ga_Pn K_4875 rfl) (fun D22 => ?_)
    refine pr_bind (g_J20_charAt_pr) (fun r27 D27 => ?_)
    refine pr_ck (fun ha31 => ?_)
    refine pr_upd (ga_Pn K_4929 rfl) (fun D31 => ?_)
    refine pr_let (fun v32 => ?_)
    exact ih _ _ _ 
theorem g_X24_say_2_pr {x1 : Int} {D : ga_D} : ga_pr D (g_X24_say_2 x1 D) := by
  unfold g_X24_say_2
  refine g_X24_say_2_l2_pr (fun D38 => ?_) _ _ _ _ 
  refine pr_upd (ga_Pn K_4875 rfl) (fun D50 => ?_)
  refine pr_ck (fun ha55 => ?_)
  refine pr_upd (ga_Pn K_4929 rfl) (fun D55 => ?_)
  exact pr_some
theorem g_X24_say_3_l2_pr  {k18 : Int → Int → ga_D → ga_S} (hk18 : ∀ (x1 x2 : Int) (D : ga_D), ga_pr D (k18 x1 x2 D)) : ∀ (n : Nat) (x1 x2 : Int) (D : ga_D), ga_pr D (g_X24_say_3_l2 n x1 x2 D k18) := by
  intro n
  induction n with
  | zero => intro x1 x2 D; exact pr_none
  | succ n ih =>
    intro x1 x2 D
    show ga_pr D (ga_ck (x2 ≠ 0) (if aw_w32 (Int.tdiv x1 x2) ≤ 9 then (k18 x1 x2 D) else (ga_let (aw_w32 (x2 * 10)) (fun v14 => g_X24_say_3_l2 n x1 v14 D k18))))
    refine pr_ck (fun hz4 => ?_)
    refine pr_ite (fun c7 => ?_) (fun c7 => ?_)
    exact hk18 _ _ _ 
    refine pr_let (fun v14 => ?_)
    exact ih _ _ _ 
theorem g_X24_say_3_l18_pr  {k56 : ga_D → ga_S} (hk56 : ∀ (D : ga_D), ga_pr D (k56 D)) : ∀ (n : Nat) (x1 x2 : Int) (D : ga_D), ga_pr D (g_X24_say_3_l18 n x1 x2 D k56) := by
  intro n
  induction n with
  | zero => intro x1 x2 D; exact pr_none
  | succ n ih =>
    intro x1 x2 D
    show ga_pr D (if x2 ≤ 0 then (k56 D) else (ga_let (ga_set D 4875 7 (aw_w32 ((D 4875 7) + 1))) (fun D34 => ga_ck (x2 ≠ 0) (ga_ck (0 ≤ D 4875 7 ∧ D 4875 7 < 8000 ∧ (-128) ≤ aw_i2b (aw_w32 (48 + (Int.tmod (aw_w32 (Int.tdiv x1 x2)) 10))) ∧ aw_i2b (aw_w32 (48 + (Int.tmod (aw_w32 (Int.tdiv x1 x2)) 10))) < 128) (ga_let (ga_set D34 4929 (D 4875 7) (aw_i2b (aw_w32 (48 + (Int.tmod (aw_w32 (Int.tdiv x1 x2)) 10))))) (fun D47 => ga_let (aw_w32 (Int.tdiv x2 10)) (fun v52 => g_X24_say_3_l18 n x1 v52 D47 k56)))))))
    refine pr_ite (fun c19 => ?_) (fun c19 => ?_)
    exact hk56 _ 
    refine pr_upd (ga_Pn K_4875 rfl) (fun D34 => ?_)
    refine pr_ck (fun hz41 => ?_)
    refine pr_ck (fun ha47 => ?_)
    refine pr_upd (ga_Pn K_4929 rfl) (fun D47 => ?_)
    refine pr_let (fun v52 => ?_)
    exact ih _ _ _ 
theorem g_X24_say_3_pr {x1 : Int} {D : ga_D} : ga_pr D (g_X24_say_3 x1 D) := by
  unfold g_X24_say_3
  refine g_X24_say_3_l2_pr (fun x1 x2 D18 => ?_) _ _ _ _ 
  refine g_X24_say_3_l18_pr (fun D56 => ?_) _ _ _ _ 
  refine pr_upd (ga_Pn K_4875 rfl) (fun D68 => ?_)
  refine pr_ck (fun ha73 => ?_)
  refine pr_upd (ga_Pn K_4929 rfl) (fun D73 => ?_)
  exact pr_some
theorem g_X24_say_pr {x1 x2 x3 : Int} {D : ga_D} : ga_pr D (g_X24_say x1 x2 x3 D) := by
  unfold g_X24_say
  refine pr_ck (fun hk2_0 => ?_)
  refine pr_bind (g_X24_say_2_pr) (fun r5 D5 => ?_)
  refine pr_bind (g_X24_say_3_pr) (fun r10 D10 => ?_)
  refine pr_bind (g_X24_say_3_pr) (fun r15 D15 => ?_)
  exact pr_some
theorem g_X24_tell_2_l2_pr  {k48 : Int → Int → ga_D → ga_S} (hk48 : ∀ (x1 x2 : Int) (D : ga_D), ga_pr D (k48 x1 x2 D)) : ∀ (n : Nat) (x1 x2 x3 : Int) (D : ga_D), ga_pr D (g_X24_tell_2_l2 n x1 x2 x3 D k48) := by
  intro n
  induction n with
  | zero => intro x1 x2 x3 D; exact pr_none
  | succ n ih =>
    intro x1 x2 x3 D
    show ga_pr D (if D 4876 0 ≤ x3 then (k48 x1 x2 D) else (ga_ck (0 ≤ x3 ∧ x3 < 10) (if aw_and (aw_shr (D ((2 * x3 + 4881)) 2) x1) 1 ≠ 1 then (ga_let (aw_w32 (x3 + 1)) (fun v42 => g_X24_tell_2_l2 n x1 x2 v42 D k48)) else (ga_bind (g_X24_say 131 x1 x3 D) (fun r39 D39 => ga_let (aw_w32 (x3 + 1)) (fun v42 => g_X24_tell_2_l2 n x1 x2 v42 D39 k48))))))
    refine pr_ite (fun c10 => ?_) (fun c10 => ?_)
    exact hk48 _ _ _ 
    refine pr_ck (fun ha21 => ?_)
    refine pr_ite (fun c30 => ?_) (fun c30 => ?_)
    refine pr_let (fun v42 => ?_)
    exact ih _ _ _ _ 
    refine pr_bind (g_X24_say_pr) (fun r39 D39 => ?_)
    refine pr_let (fun v42 => ?_)
    exact ih _ _ _ _ 
theorem g_X24_tell_2_l59_pr  {k107 : Int → Int → Int → ga_D → ga_S} (hk107 : ∀ (x1 x2 x3 : Int) (D : ga_D), ga_pr D (k107 x1 x2 x3 D)) : ∀ (n : Nat) (x1 x2 x3 x4 : Int) (D : ga_D), ga_pr D (g_X24_tell_2_l59 n x1 x2 x3 x4 D k107) := by
  intro n
  induction n with
  | zero => intro x1 x2 x3 x4 D; exact pr_none
  | succ n ih =>
    intro x1 x2 x3 x4 D
    show ga_pr D (if D 4876 0 ≤ x4 then (k107 x1 x2 x3 D) else (ga_ck (ga_K x2 = (24, 0)) (ga_ck (0 ≤ x3 ∧ x3 < 6) (if aw_and (aw_shr (D ((x2 + 1)) x3) x4) 1 ≠ 1 then (ga_let (aw_w32 (x4 + 1)) (fun v101 => g_X24_tell_2_l59 n x1 x2 x3 v101 D k107)) else (ga_bind (g_X24_say 132 x1 x3 D) (fun r92 D92 => ga_bind (g_X24_say_3 x4 D92) (fun r98 D98 => ga_let (aw_w32 (x4 + 1)) (fun v101 => g_X24_tell_2_l59 n x1 x2 x3 v101 D98 k107))))))))
    refine pr_ite (fun c68 => ?_) (fun c68 => ?_)
    exact hk107 _ _ _ _ 
    refine pr_ck (fun hk72_0 => ?_)
    refine pr_ck (fun ha76 => ?_)
    refine pr_ite (fun c83 => ?_) (fun c83 => ?_)
    refine pr_let (fun v101 => ?_)
    exact ih _ _ _ _ _ 
    refine pr_bind (g_X24_say_pr) (fun r92 D92 => ?_)
    refine pr_bind (g_X24_say_3_pr) (fun r98 D98 => ?_)
    refine pr_let (fun v101 => ?_)
    exact ih _ _ _ _ _ 
theorem g_X24_tell_2_l50_pr  {k113 : Int → Int → ga_D → ga_S} (hk113 : ∀ (x1 x2 : Int) (D : ga_D), ga_pr D (k113 x1 x2 D)) : ∀ (n : Nat) (x1 x2 x3 : Int) (D : ga_D), ga_pr D (g_X24_tell_2_l50 n x1 x2 x3 D k113) := by
  intro n
  induction n with
  | zero => intro x1 x2 x3 D; exact pr_none
  | succ n ih =>
    intro x1 x2 x3 D
    show ga_pr D (if 6 ≤ x3 then (k113 x1 x2 D) else (g_X24_tell_2_l59 aw_fu x1 x2 x3 0 D (fun x1 x2 x3 D107 => ga_let (aw_w32 (x3 + 1)) (fun v107 => g_X24_tell_2_l50 n x1 x2 v107 D107 k113))))
    refine pr_ite (fun c53 => ?_) (fun c53 => ?_)
    exact hk113 _ _ _ 
    refine g_X24_tell_2_l59_pr (fun x1 x2 x3 D107 => ?_) _ _ _ _ _ _ 
    refine pr_let (fun v107 => ?_)
    exact ih _ _ _ _ 
theorem g_X24_tell_2_l115_pr  {k148 : Int → Int → ga_D → ga_S} (hk148 : ∀ (x1 x2 : Int) (D : ga_D), ga_pr D (k148 x1 x2 D)) : ∀ (n : Nat) (x1 x2 x3 : Int) (D : ga_D), ga_pr D (g_X24_tell_2_l115 n x1 x2 x3 D k148) := by
  intro n
  induction n with
  | zero => intro x1 x2 x3 D; exact pr_none
  | succ n ih =>
    intro x1 x2 x3 D
    show ga_pr D (if 8 ≤ x3 then (k148 x1 x2 D) else (ga_ck (ga_K x2 = (24, 0)) (if aw_and (aw_shr (D x2 4) x3) 1 ≠ 1 then (ga_let (aw_w32 (x3 + 1)) (fun v142 => g_X24_tell_2_l115 n x1 x2 v142 D k148)) else (ga_bind (g_X24_say 134 x1 x3 D) (fun r139 D139 => ga_let (aw_w32 (x3 + 1)) (fun v142 => g_X24_tell_2_l115 n x1 x2 v142 D139 k148))))))
    refine pr_ite (fun c118 => ?_) (fun c118 => ?_)
    exact hk148 _ _ _ 
    refine pr_ck (fun hk122_0 => ?_)
    refine pr_ite (fun c130 => ?_) (fun c130 => ?_)
    refine pr_let (fun v142 => ?_)
    exact ih _ _ _ _ 
    refine pr_bind (g_X24_say_pr) (fun r139 D139 => ?_)
    refine pr_let (fun v142 => ?_)
    exact ih _ _ _ _ 
theorem g_X24_tell_2_j168_pr  (x1 x2 : Int) (D : ga_D) : ga_pr D (g_X24_tell_2_j168 x1 x2 D) := by
  unfold g_X24_tell_2_j168
  refine pr_ck (fun hk169_0 => ?_)
  refine pr_ite (fun c172 => ?_) (fun c172 => ?_)
  exact pr_some
  refine pr_bind (g_X24_say_pr) (fun r184 D184 => ?_)
  exact pr_some
theorem g_X24_tell_2_pr {x1 x2 : Int} {D : ga_D} : ga_pr D (g_X24_tell_2 x1 x2 D) := by
  unfold g_X24_tell_2
  refine g_X24_tell_2_l2_pr (fun x1 x2 D48 => ?_) _ _ _ _ _ 
  refine g_X24_tell_2_l50_pr (fun x1 x2 D113 => ?_) _ _ _ _ _ 
  refine g_X24_tell_2_l115_pr (fun x1 x2 D148 => ?_) _ _ _ _ _ 
  refine pr_ck (fun hk149_0 => ?_)
  refine pr_ite (fun c153 => ?_) (fun c153 => ?_)
  refine g_X24_tell_2_j168_pr _ _ _ 
  refine pr_bind (g_X24_say_pr) (fun r165 D165 => ?_)
  refine g_X24_tell_2_j168_pr _ _ _ 
theorem g_X24_tell_l7_pr  {k55 : ga_D → ga_S} (hk55 : ∀ (D : ga_D), ga_pr D (k55 D)) : ∀ (n : Nat) (x1 : Int) (D : ga_D), ga_pr D (g_X24_tell_l7 n x1 D k55) := by
  intro n
  induction n with
  | zero => intro x1 D; exact pr_none
  | succ n ih =>
    intro x1 D
    show ga_pr D (if D 4876 0 ≤ x1 then (k55 D) else (ga_ck (0 ≤ x1 ∧ x1 < 10) (ga_ck (0 ≤ x1 ∧ x1 < 10) (ga_bind (g_X24_say 130 (D ((2 * x1 + 4881)) 0) (D ((2 * x1 + 4881)) 1) D) (fun r46 D46 => ga_let (aw_w32 (x1 + 1)) (fun v49 => g_X24_tell_l7 n v49 D46 k55))))))
    refine pr_ite (fun c15 => ?_) (fun c15 => ?_)
    exact hk55 _ 
    refine pr_ck (fun ha30 => ?_)
    refine pr_ck (fun ha42 => ?_)
    refine pr_bind (g_X24_say_pr) (fun r46 D46 => ?_)
    refine pr_let (fun v49 => ?_)
    exact ih _ _ 
theorem g_X24_tell_l57_pr  {k88 : ga_D → ga_S} (hk88 : ∀ (D : ga_D), ga_pr D (k88 D)) : ∀ (n : Nat) (x1 : Int) (D : ga_D), ga_pr D (g_X24_tell_l57 n x1 D k88) := by
  intro n
  induction n with
  | zero => intro x1 D; exact pr_none
  | succ n ih =>
    intro x1 D
    show ga_pr D (if D 4876 0 ≤ x1 then (k88 D) else (ga_ck (0 ≤ x1 ∧ x1 < 10) (ga_bind (g_X24_tell_2 x1 ((2 * x1 + 4881)) D) (fun r79 D79 => ga_let (aw_w32 (x1 + 1)) (fun v82 => g_X24_tell_l57 n v82 D79 k88)))))
    refine pr_ite (fun c65 => ?_) (fun c65 => ?_)
    exact hk88 _ 
    refine pr_ck (fun ha78 => ?_)
    refine pr_bind (g_X24_tell_2_pr) (fun r79 D79 => ?_)
    refine pr_let (fun v82 => ?_)
    exact ih _ _ 
theorem g_X24_tell_l90_pr  {k145 : ga_D → ga_S} (hk145 : ∀ (D : ga_D), ga_pr D (k145 D)) : ∀ (n : Nat) (x1 : Int) (D : ga_D), ga_pr D (g_X24_tell_l90 n x1 D k145) := by
  intro n
  induction n with
  | zero => intro x1 D; exact pr_none
  | succ n ih =>
    intro x1 D
    show ga_pr D (if D 4876 2 ≤ x1 then (k145 D) else (ga_ck (0 ≤ x1 ∧ x1 < 20) (ga_ck (0 ≤ x1 ∧ x1 < 20) (ga_bind (g_X24_say 133 (D 4878 x1) (D 4879 x1) D) (fun r123 D123 => ga_ck (0 ≤ x1 ∧ x1 < 20) (ga_bind (g_X24_say_3 (D123 4880 x1) D123) (fun r136 D136 => ga_let (aw_w32 (x1 + 1)) (fun v139 => g_X24_tell_l90 n v139 D136 k145))))))))
    refine pr_ite (fun c98 => ?_) (fun c98 => ?_)
    exact hk145 _ 
    refine pr_ck (fun ha113 => ?_)
    refine pr_ck (fun ha122 => ?_)
    refine pr_bind (g_X24_say_pr) (fun r123 D123 => ?_)
    refine pr_ck (fun ha135 => ?_)
    refine pr_bind (g_X24_say_3_pr) (fun r136 D136 => ?_)
    refine pr_let (fun v139 => ?_)
    exact ih _ _ 
theorem g_X24_tell_pr {D : ga_D} : ga_pr D (g_X24_tell D) := by
  unfold g_X24_tell
  refine pr_upd (ga_Pn K_4875 rfl) (fun D2 => ?_)
  refine g_X24_tell_l7_pr (fun D55 => ?_) _ _ _ 
  refine g_X24_tell_l57_pr (fun D88 => ?_) _ _ _ 
  refine g_X24_tell_l90_pr (fun D145 => ?_) _ _ _ 
  exact pr_some
theorem g_X24_write_pr {x1 : Int} {D : ga_D} : ga_pr D (g_X24_write x1 D) := by
  unfold g_X24_write
  refine pr_bind (g_X24_tell_pr) (fun r1 D1 => ?_)
  refine pr_ite (fun c5 => ?_) (fun c5 => ?_)
  exact pr_some
  refine pr_ite (fun c13 => ?_) (fun c13 => ?_)
  exact pr_some
  refine pr_ck (fun ha21 => ?_)
  exact pr_some
theorem g_X24_loose_l7_pr  {k34 : Int → ga_D → ga_S} (hk34 : ∀ (x1 : Int) (D : ga_D), ga_pr D (k34 x1 D)) : ∀ (n : Nat) (x1 x2 : Int) (D : ga_D), ga_pr D (g_X24_loose_l7 n x1 x2 D k34) := by
  intro n
  induction n with
  | zero => intro x1 x2 D; exact pr_none
  | succ n ih =>
    intro x1 x2 D
    show ga_pr D (if x2 = 0 then (k34 x1 D) else (ga_bind (g_J25_numberOfTrailingZeros x2 D) (fun r17 D17 => ga_bind (g_X25_hanging 4876 r17 0 D17) (fun r21 D21 => ga_let (aw_and x2 (aw_xor r21 (-1))) (fun v27 => ga_let (aw_w32 (x1 + 1)) (fun v28 => g_X24_loose_l7 n v28 v27 D21 k34))))))
    refine pr_ite (fun c8 => ?_) (fun c8 => ?_)
    exact hk34 _ _ 
    refine pr_bind (g_J25_numberOfTrailingZeros_pr) (fun r17 D17 => ?_)
    refine pr_bind (g_X25_hanging_pr) (fun r21 D21 => ?_)
    refine pr_let (fun v27 => ?_)
    refine pr_let (fun v28 => ?_)
    exact ih _ _ _ 
theorem g_X24_loose_pr {D : ga_D} : ga_pr D (g_X24_loose D) := by
  unfold g_X24_loose
  refine pr_bind (g_X24_all_pr) (fun r3 D3 => ?_)
  refine g_X24_loose_l7_pr (fun x1 D34 => ?_) _ _ _ _ 
  exact pr_some
