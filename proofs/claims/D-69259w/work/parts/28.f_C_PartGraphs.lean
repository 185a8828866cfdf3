theorem g_X24_unit_fr {x1 : Int} {D : ga_D} : ga_fr 4875 4930 D (g_X24_unit x1 D) := by
  unfold g_X24_unit
  refine fr_ite (fun c1 => ?_) (fun c1 => ?_)
  exact fr_some
  refine fr_ite (fun c8 => ?_) (fun c8 => ?_)
  exact fr_some
  refine fr_ite (fun c18 => ?_) (fun c18 => ?_)
  refine fr_upd (by decide) (fun D35 => ?_)
  refine fr_ck (fun ha40 => ?_)
  refine fr_upd (by decide) (fun D40 => ?_)
  exact fr_some
  exact fr_some
theorem g_X26_isPlain_fr {x0 x1 : Int} {D : ga_D} : ga_fr 4875 4930 D (g_X26_isPlain x0 x1 D) := by
  unfold g_X26_isPlain
  refine fr_ck (fun hk1_0 => ?_)
  refine fr_ite (fun c8 => ?_) (fun c8 => ?_)
  exact fr_some
  exact fr_some
theorem g_X26_isFree_l4_fr  {k37 : Int → Int → Int → ga_D → ga_S} (hk37 : ∀ (x0 x1 x2 : Int) (D : ga_D), ga_fr 4875 4930 D (k37 x0 x1 x2 D)) : ∀ (n : Nat) (x0 x1 x2 x3 : Int) (D : ga_D), ga_fr 4875 4930 D (g_X26_isFree_l4 n x0 x1 x2 x3 D k37) := by
  intro n
  induction n with
  | zero => intro x0 x1 x2 x3 D; exact fr_none
  | succ n ih =>
    intro x0 x1 x2 x3 D
    show ga_fr 4875 4930 D (if 6 ≤ x3 then (k37 x0 x1 x2 D) else (ga_ck (ga_K x0 = (24, 0)) (ga_ck (0 ≤ x3 ∧ x3 < 6) (if aw_and (D ((x0 + 1)) x3) (aw_xor x1 (-1)) ≠ 0 then (ga_let (aw_or x2 0) (fun v30 => ga_let (aw_w32 (x3 + 1)) (fun v31 => g_X26_isFree_l4 n x0 x1 v30 v31 D k37))) else (ga_let (aw_or x2 1) (fun v30 => ga_let (aw_w32 (x3 + 1)) (fun v31 => g_X26_isFree_l4 n x0 x1 v30 v31 D k37)))))))
    refine fr_ite (fun c7 => ?_) (fun c7 => ?_)
    exact hk37 _ _ _ _ 
    refine fr_ck (fun hk12_0 => ?_)
    refine fr_ck (fun ha16 => ?_)
    refine fr_ite (fun c21 => ?_) (fun c21 => ?_)
    refine fr_let (fun v30 => ?_)
    refine fr_let (fun v31 => ?_)
    exact ih _ _ _ _ _ 
    refine fr_let (fun v30 => ?_)
    refine fr_let (fun v31 => ?_)
    exact ih _ _ _ _ _ 
theorem g_X26_isFree_fr {x0 x1 : Int} {D : ga_D} : ga_fr 4875 4930 D (g_X26_isFree x0 x1 D) := by
  unfold g_X26_isFree
  refine g_X26_isFree_l4_fr (fun x0 x1 x2 D37 => ?_) _ _ _ _ _ _ 
  refine fr_ite (fun c38 => ?_) (fun c38 => ?_)
  exact fr_some
  refine fr_bind (g_X26_isPlain_fr) (fun r43 D43 => ?_)
  refine fr_ck (fun hk43_0 => ?_)
  refine fr_ite (fun c46 => ?_) (fun c46 => ?_)
  exact fr_some
  exact fr_some
theorem g_X25_comesOff_l13_fr  {k66 : Int → Int → Int → Int → ga_D → ga_S} (hk66 : ∀ (x0 x1 x2 x3 : Int) (D : ga_D), ga_fr 4875 4930 D (k66 x0 x1 x2 x3 D)) : ∀ (n : Nat) (x0 x1 x2 x3 x4 : Int) (D : ga_D), ga_fr 4875 4930 D (g_X25_comesOff_l13 n x0 x1 x2 x3 x4 D k66) := by
  intro n
  induction n with
  | zero => intro x0 x1 x2 x3 x4 D; exact fr_none
  | succ n ih =>
    intro x0 x1 x2 x3 x4 D
    show ga_fr 4875 4930 D (ga_ck (ga_K x0 = (23, 0)) (if D x0 0 ≤ x4 then (k66 x0 x1 x2 x3 D) else (if x4 = x1 then (ga_let (aw_w32 (x4 + 1)) (fun v60 => g_X25_comesOff_l13 n x0 x1 x2 x3 v60 D k66)) else (if aw_and (aw_shr x2 x4) 1 ≠ 0 then (ga_let (aw_w32 (x4 + 1)) (fun v60 => g_X25_comesOff_l13 n x0 x1 x2 x3 v60 D k66)) else (ga_ck (0 ≤ x4 ∧ x4 < 10) (ga_bind (g_X26_isFree ((x0 + 2 * x4 + 5)) x2 D) (fun r45 D45 => if r45 = 0 then (ga_let (aw_w32 (x4 + 1)) (fun v60 => g_X25_comesOff_l13 n x0 x1 x2 x3 v60 D45 k66)) else (ga_let (aw_or x2 (aw_shl 1 x4)) (fun v57 => ga_let (aw_w32 (x4 + 1)) (fun v60 => g_X25_comesOff_l13 n x0 x1 v57 1 v60 D45 k66))))))))))
    refine fr_ck (fun hk16_0 => ?_)
    refine fr_ite (fun c19 => ?_) (fun c19 => ?_)
    exact hk66 _ _ _ _ _ 
    refine fr_ite (fun c25 => ?_) (fun c25 => ?_)
    refine fr_let (fun v60 => ?_)
    exact ih _ _ _ _ _ _ 
    refine fr_ite (fun c34 => ?_) (fun c34 => ?_)
    refine fr_let (fun v60 => ?_)
    exact ih _ _ _ _ _ _ 
    refine fr_ck (fun ha43 => ?_)
    refine fr_bind (g_X26_isFree_fr) (fun r45 D45 => ?_)
    refine fr_ite (fun c48 => ?_) (fun c48 => ?_)
    refine fr_let (fun v60 => ?_)
    exact ih _ _ _ _ _ _ 
    refine fr_let (fun v57 => ?_)
    refine fr_let (fun v60 => ?_)
    exact ih _ _ _ _ _ _ 
theorem g_X25_comesOff_l4_fr  {k69 : Int → ga_D → ga_S} (hk69 : ∀ (x2 : Int) (D : ga_D), ga_fr 4875 4930 D (k69 x2 D)) : ∀ (n : Nat) (x0 x1 x2 x3 : Int) (D : ga_D), ga_fr 4875 4930 D (g_X25_comesOff_l4 n x0 x1 x2 x3 D k69) := by
  intro n
  induction n with
  | zero => intro x0 x1 x2 x3 D; exact fr_none
  | succ n ih =>
    intro x0 x1 x2 x3 D
    show ga_fr 4875 4930 D (if x3 = 0 then (k69 x2 D) else (g_X25_comesOff_l13 aw_fu x0 x1 x2 0 0 D (fun x0 x1 x2 x3 D66 => g_X25_comesOff_l4 n x0 x1 x2 x3 D66 k69)))
    refine fr_ite (fun c5 => ?_) (fun c5 => ?_)
    exact hk69 _ _ 
    refine g_X25_comesOff_l13_fr (fun x0 x1 x2 x3 D66 => ?_) _ _ _ _ _ _ _ 
    exact ih _ _ _ _ _ 
theorem g_X25_comesOff_fr {x0 x1 : Int} {D : ga_D} : ga_fr 4875 4930 D (g_X25_comesOff x0 x1 D) := by
  unfold g_X25_comesOff
  refine g_X25_comesOff_l4_fr (fun x2 D69 => ?_) _ _ _ _ _ _ 
  exact fr_some
theorem g_X25_isPart_fr {x0 x1 : Int} {D : ga_D} : ga_fr 4875 4930 D (g_X25_isPart x0 x1 D) := by
  unfold g_X25_isPart
  refine fr_ite (fun c3 => ?_) (fun c3 => ?_)
  exact fr_some
  refine fr_ck (fun hk8_0 => ?_)
  refine fr_ite (fun c13 => ?_) (fun c13 => ?_)
  exact fr_some
  exact fr_some
theorem g_X24_bit_l4_fr  {k25 : Int → Int → ga_D → ga_S} (hk25 : ∀ (x1 x2 : Int) (D : ga_D), ga_fr 4875 4930 D (k25 x1 x2 D)) : ∀ (n : Nat) (x1 x2 x3 : Int) (D : ga_D), ga_fr 4875 4930 D (g_X24_bit_l4 n x1 x2 x3 D k25) := by
  intro n
  induction n with
  | zero => intro x1 x2 x3 D; exact fr_none
  | succ n ih =>
    intro x1 x2 x3 D
    show ga_fr 4875 4930 D (if x1 ≤ x3 then (k25 x1 x2 D) else (if x2 = 0 then (k25 x1 x2 D) else (ga_let (aw_and x2 (aw_w32 (x2 - 1))) (fun v18 => ga_let (aw_w32 (x3 + 1)) (fun v19 => g_X24_bit_l4 n x1 v18 v19 D k25)))))
    refine fr_ite (fun c6 => ?_) (fun c6 => ?_)
    exact hk25 _ _ _ 
    refine fr_ite (fun c10 => ?_) (fun c10 => ?_)
    exact hk25 _ _ _ 
    refine fr_let (fun v18 => ?_)
    refine fr_let (fun v19 => ?_)
    exact ih _ _ _ _ 
theorem g_X24_bit_j25_fr  (x1 x2 : Int) (D : ga_D) : ga_fr 4875 4930 D (g_X24_bit_j25 x1 x2 D) := by
  unfold g_X24_bit_j25
  refine fr_ite (fun c26 => ?_) (fun c26 => ?_)
  exact fr_some
  refine fr_ite (fun c30 => ?_) (fun c30 => ?_)
  refine fr_bind (g_J25_numberOfTrailingZeros_fr) (fun r38 D38 => ?_)
  exact fr_some
  exact fr_some
theorem g_X24_bit_fr {x0 x1 : Int} {D : ga_D} : ga_fr 4875 4930 D (g_X24_bit x0 x1 D) := by
  unfold g_X24_bit
  refine g_X24_bit_l4_fr (fun x1 x2 D25 => ?_) _ _ _ _ _ 
  refine g_X24_bit_j25_fr _ _ _ 
theorem g_X24_before_l34_fr  {k85 : Int → Int → ga_D → ga_S} (hk85 : ∀ (x2 x3 : Int) (D : ga_D), ga_fr 4875 4930 D (k85 x2 x3 D)) : ∀ (n : Nat) (x1 x2 x3 x4 : Int) (D : ga_D), ga_fr 4875 4930 D (g_X24_before_l34 n x1 x2 x3 x4 D k85) := by
  intro n
  induction n with
  | zero => intro x1 x2 x3 x4 D; exact fr_none
  | succ n ih =>
    intro x1 x2 x3 x4 D
    show ga_fr 4875 4930 D (if D 4876 0 ≤ x4 then (k85 x2 x3 D) else (if x4 = x1 then (ga_let (aw_or x3 0) (fun v78 => ga_let (aw_w32 (x4 + 1)) (fun v79 => g_X24_before_l34 n x1 x2 v78 v79 D k85))) else (ga_bind (g_X25_comesOff 4876 x4 D) (fun r59 D59 => if aw_and (aw_shr r59 x1) 1 ≠ 0 then (ga_let (aw_or x3 0) (fun v78 => ga_let (aw_w32 (x4 + 1)) (fun v79 => g_X24_before_l34 n x1 x2 v78 v79 D59 k85))) else (ga_let (aw_or x3 (aw_shl 1 x4)) (fun v78 => ga_let (aw_w32 (x4 + 1)) (fun v79 => g_X24_before_l34 n x1 x2 v78 v79 D59 k85)))))))
    refine fr_ite (fun c43 => ?_) (fun c43 => ?_)
    exact hk85 _ _ _ 
    refine fr_ite (fun c50 => ?_) (fun c50 => ?_)
    refine fr_let (fun v78 => ?_)
    refine fr_let (fun v79 => ?_)
    exact ih _ _ _ _ _ 
    refine fr_bind (g_X25_comesOff_fr) (fun r59 D59 => ?_)
    refine fr_ite (fun c66 => ?_) (fun c66 => ?_)
    refine fr_let (fun v78 => ?_)
    refine fr_let (fun v79 => ?_)
    exact ih _ _ _ _ _ 
    refine fr_let (fun v78 => ?_)
    refine fr_let (fun v79 => ?_)
    exact ih _ _ _ _ _ 
theorem g_X24_before_fr {x1 x2 : Int} {D : ga_D} : ga_fr 4875 4930 D (g_X24_before x1 x2 D) := by
  unfold g_X24_before
  refine fr_bind (g_X25_isPart_fr) (fun r6 D6 => ?_)
  refine fr_ite (fun c9 => ?_) (fun c9 => ?_)
  exact fr_some
  refine fr_bind (g_X25_comesOff_fr) (fun r17 D17 => ?_)
  refine fr_ite (fun c24 => ?_) (fun c24 => ?_)
  refine g_X24_before_l34_fr (fun x2 x3 D85 => ?_) _ _ _ _ _ _ 
  refine fr_bind (g_X24_bit_fr) (fun r87 D87 => ?_)
  exact fr_some
  exact fr_some
theorem g_X25_clear_fr {x0 : Int} {D : ga_D} : ga_fr 4875 4930 D (g_X25_clear x0 D) := by
  unfold g_X25_clear
  refine fr_ck (fun hk2_0 => ?_)
  refine fr_upd (by have := rg_23_0 hk2_0; omega) (fun D2 => ?_)
  refine fr_upd (by have := rg_23_0 hk2_0; omega) (fun D7 => ?_)
  exact fr_some
theorem g_X24_isBlank_fr {x0 : Int} {D : ga_D} : ga_fr 4875 4930 D (g_X24_isBlank x0 D) := by
  unfold g_X24_isBlank
  refine fr_ite (fun c3 => ?_) (fun c3 => ?_)
  exact fr_some
  refine fr_ite (fun c9 => ?_) (fun c9 => ?_)
  exact fr_some
  exact fr_some
theorem g_X24_skip_l2_fr  {k28 : Int → ga_D → ga_S} (hk28 : ∀ (x2 : Int) (D : ga_D), ga_fr 4875 4930 D (k28 x2 D)) : ∀ (n : Nat) (x2 : Int) (D : ga_D), ga_fr 4875 4930 D (g_X24_skip_l2 n x2 D k28) := by
  intro n
  induction n with
  | zero => intro x2 D; exact fr_none
  | succ n ih =>
    intro x2 D
    show ga_fr 4875 4930 D (if D 4875 3 ≤ x2 then (k28 x2 D) else (ga_ck (0 ≤ x2 ∧ x2 < 2000) (ga_bind (g_X24_isBlank (D 4926 x2) D) (fun r16 D16 => if r16 = 0 then (k28 x2 D16) else (ga_let (aw_w32 (x2 + 1)) (fun v22 => g_X24_skip_l2 n v22 D16 k28))))))
    refine fr_ite (fun c7 => ?_) (fun c7 => ?_)
    exact hk28 _ _ 
    refine fr_ck (fun ha15 => ?_)
    refine fr_bind (g_X24_isBlank_fr) (fun r16 D16 => ?_)
    refine fr_ite (fun c19 => ?_) (fun c19 => ?_)
    exact hk28 _ _ 
    refine fr_let (fun v22 => ?_)
    exact ih _ _ 
theorem g_X24_skip_fr {x1 : Int} {D : ga_D} : ga_fr 4875 4930 D (g_X24_skip x1 D) := by
  unfold g_X24_skip
  refine g_X24_skip_l2_fr (fun x2 D28 => ?_) _ _ _ 
  exact fr_some
theorem g_X24_wordEnd_l2_fr  {k28 : Int → ga_D → ga_S} (hk28 : ∀ (x2 : Int) (D : ga_D), ga_fr 4875 4930 D (k28 x2 D)) : ∀ (n : Nat) (x2 : Int) (D : ga_D), ga_fr 4875 4930 D (g_X24_wordEnd_l2 n x2 D k28) := by
  intro n
  induction n with
  | zero => intro x2 D; exact fr_none
  | succ n ih =>
    intro x2 D
    show ga_fr 4875 4930 D (if D 4875 3 ≤ x2 then (k28 x2 D) else (ga_ck (0 ≤ x2 ∧ x2 < 2000) (ga_bind (g_X24_isBlank (D 4926 x2) D) (fun r16 D16 => if r16 ≠ 0 then (k28 x2 D16) else (ga_let (aw_w32 (x2 + 1)) (fun v22 => g_X24_wordEnd_l2 n v22 D16 k28))))))
    refine fr_ite (fun c7 => ?_) (fun c7 => ?_)
    exact hk28 _ _ 
    refine fr_ck (fun ha15 => ?_)
    refine fr_bind (g_X24_isBlank_fr) (fun r16 D16 => ?_)
    refine fr_ite (fun c19 => ?_) (fun c19 => ?_)
    exact hk28 _ _ 
    refine fr_let (fun v22 => ?_)
    exact ih _ _ 
theorem g_X24_wordEnd_fr {x1 : Int} {D : ga_D} : ga_fr 4875 4930 D (g_X24_wordEnd x1 D) := by
  unfold g_X24_wordEnd
  refine g_X24_wordEnd_l2_fr (fun x2 D28 => ?_) _ _ _ 
  exact fr_some
theorem g_X24_isWord_l25_fr  {k55 : Int → Int → ga_D → ga_S} (hk55 : ∀ (x3 x4 : Int) (D : ga_D), ga_fr 4875 4930 D (k55 x3 x4 D)) : ∀ (n : Nat) (x1 x2 x3 x4 : Int) (D : ga_D), ga_fr 4875 4930 D (g_X24_isWord_l25 n x1 x2 x3 x4 D k55) := by
  intro n
  induction n with
  | zero => intro x1 x2 x3 x4 D; exact fr_none
  | succ n ih =>
    intro x1 x2 x3 x4 D
    show ga_fr 4875 4930 D (if x3 ≤ x4 then (k55 x3 x4 D) else (ga_ck (0 ≤ aw_w32 (x1 + x4) ∧ aw_w32 (x1 + x4) < 2000) (ga_bind (g_J20_charAt x2 x4 D) (fun r43 D43 => ga_ck (ga_K x2 = (69, 0)) (if D 4926 (aw_w32 (x1 + x4)) ≠ r43 then (k55 x3 x4 D43) else (ga_let (aw_w32 (x4 + 1)) (fun v49 => g_X24_isWord_l25 n x1 x2 x3 v49 D43 k55)))))))
    refine fr_ite (fun c28 => ?_) (fun c28 => ?_)
    exact hk55 _ _ _ 
    refine fr_ck (fun ha39 => ?_)
    refine fr_bind (g_J20_charAt_fr) (fun r43 D43 => ?_)
    refine fr_ck (fun hk43_0 => ?_)
    refine fr_ite (fun c46 => ?_) (fun c46 => ?_)
    exact hk55 _ _ _ 
    refine fr_let (fun v49 => ?_)
    exact ih _ _ _ _ _ 
theorem g_X24_isWord_j55_fr  (x3 x4 : Int) (D : ga_D) : ga_fr 4875 4930 D (g_X24_isWord_j55 x3 x4 D) := by
  unfold g_X24_isWord_j55
  refine fr_ite (fun c58 => ?_) (fun c58 => ?_)
  exact fr_some
  exact fr_some
theorem g_X24_isWord_fr {x1 x2 : Int} {D : ga_D} : ga_fr 4875 4930 D (g_X24_isWord x1 x2 D) := by
  unfold g_X24_isWord
  refine fr_bind (g_J20_length_fr) (fun r1 D1 => ?_)
  refine fr_ck (fun hk1_0 => ?_)
  refine fr_bind (g_X24_wordEnd_fr) (fun r7 D7 => ?_)
  refine fr_ite (fun c13 => ?_) (fun c13 => ?_)
  refine fr_let (fun v23 => ?_)
  refine g_X24_isWord_l25_fr (fun x3 x4 D55 => ?_) _ _ _ _ _ _ 
  refine g_X24_isWord_j55_fr _ _ _ 
  refine g_X24_isWord_l25_fr (fun x3 x4 D55 => ?_) _ _ _ _ _ _ 
  refine g_X24_isWord_j55_fr _ _ _ 
theorem g_X24_sentenceAt_l4_fr  {k47 : Int → ga_D → ga_S} (hk47 : ∀ (x2 : Int) (D : ga_D), ga_fr 4875 4930 D (k47 x2 D)) : ∀ (n : Nat) (x1 x2 x3 : Int) (D : ga_D), ga_fr 4875 4930 D (g_X24_sentenceAt_l4 n x1 x2 x3 D k47) := by
  intro n
  induction n with
  | zero => intro x1 x2 x3 D; exact fr_none
  | succ n ih =>
    intro x1 x2 x3 D
    show ga_fr 4875 4930 D (if 7 ≤ x3 then (k47 x2 D) else (ga_ck (0 ≤ x3 ∧ x3 < 7) (ga_ck (ga_K (D 4927 x3) = (901, 0)) (ga_bind (g_X24_isWord x1 (D (D 4927 x3) 1) D) (fun r24 D24 => if r24 = 0 then (ga_let (aw_w32 (x3 + 1)) (fun v41 => g_X24_sentenceAt_l4 n x1 x2 v41 D24 k47)) else (ga_ck (0 ≤ x3 ∧ x3 < 7) (ga_let (D24 4927 x3) (fun v40 => ga_let (aw_w32 (x3 + 1)) (fun v41 => g_X24_sentenceAt_l4 n x1 v40 v41 D24 k47)))))))))
    refine fr_ite (fun c10 => ?_) (fun c10 => ?_)
    exact hk47 _ _ 
    refine fr_ck (fun ha20 => ?_)
    refine fr_ck (fun hk21_0 => ?_)
    refine fr_bind (g_X24_isWord_fr) (fun r24 D24 => ?_)
    refine fr_ite (fun c27 => ?_) (fun c27 => ?_)
    refine fr_let (fun v41 => ?_)
    exact ih _ _ _ _ 
    refine fr_ck (fun ha35 => ?_)
    refine fr_let (fun v40 => ?_)
    refine fr_let (fun v41 => ?_)
    exact ih _ _ _ _ 
theorem g_X24_sentenceAt_fr {x1 : Int} {D : ga_D} : ga_fr 4875 4930 D (g_X24_sentenceAt x1 D) := by
  unfold g_X24_sentenceAt
  refine g_X24_sentenceAt_l4_fr (fun x2 D47 => ?_) _ _ _ _ _ 
  exact fr_some
theorem g_X24_canCover_l4_fr  {k53 : Int → ga_D → ga_S} (hk53 : ∀ (x2 : Int) (D : ga_D), ga_fr 4875 4930 D (k53 x2 D)) : ∀ (n : Nat) (x1 x2 x3 : Int) (D : ga_D), ga_fr 4875 4930 D (g_X24_canCover_l4 n x1 x2 x3 D k53) := by
  intro n
  induction n with
  | zero => intro x1 x2 x3 D; exact fr_none
  | succ n ih =>
    intro x1 x2 x3 D
    show ga_fr 4875 4930 D (if D 4901 0 ≤ x3 then (k53 x2 D) else (if x3 = x1 then (ga_let (aw_or x2 0) (fun v46 => ga_let (aw_w32 (x3 + 1)) (fun v47 => g_X24_canCover_l4 n x1 v46 v47 D k53))) else (ga_ck (0 ≤ x3 ∧ x3 < 10) (if aw_and (aw_shr (D ((2 * x3 + 4906)) 2) x1) 1 ≠ 0 then (ga_let (aw_or x2 0) (fun v46 => ga_let (aw_w32 (x3 + 1)) (fun v47 => g_X24_canCover_l4 n x1 v46 v47 D k53))) else (ga_let (aw_or x2 1) (fun v46 => ga_let (aw_w32 (x3 + 1)) (fun v47 => g_X24_canCover_l4 n x1 v46 v47 D k53)))))))
    refine fr_ite (fun c12 => ?_) (fun c12 => ?_)
    exact hk53 _ _ 
    refine fr_ite (fun c18 => ?_) (fun c18 => ?_)
    refine fr_let (fun v46 => ?_)
    refine fr_let (fun v47 => ?_)
    exact ih _ _ _ _ 
    refine fr_ck (fun ha29 => ?_)
    refine fr_ite (fun c37 => ?_) (fun c37 => ?_)
    refine fr_let (fun v46 => ?_)
    refine fr_let (fun v47 => ?_)
    exact ih _ _ _ _ 
    refine fr_let (fun v46 => ?_)
    refine fr_let (fun v47 => ?_)
    exact ih _ _ _ _ 
theorem g_X24_canCover_fr {x1 : Int} {D : ga_D} : ga_fr 4875 4930 D (g_X24_canCover x1 D) := by
  unfold g_X24_canCover
  refine g_X24_canCover_l4_fr (fun x2 D53 => ?_) _ _ _ _ _ 
  refine fr_ck (fun hr54 => ?_)
  exact fr_some
theorem g_X24_isOpen_fr {x1 x2 : Int} {D : ga_D} : ga_fr 4875 4930 D (g_X24_isOpen x1 x2 D) := by
  unfold g_X24_isOpen
  refine fr_ck (fun ha8 => ?_)
  refine fr_ck (fun ha13 => ?_)
  refine fr_ite (fun c31 => ?_) (fun c31 => ?_)
  exact fr_some
  exact fr_some
theorem g_X24_canBar_l4_fr  {k25 : Int → ga_D → ga_S} (hk25 : ∀ (x2 : Int) (D : ga_D), ga_fr 4875 4930 D (k25 x2 D)) : ∀ (n : Nat) (x1 x2 x3 : Int) (D : ga_D), ga_fr 4875 4930 D (g_X24_canBar_l4 n x1 x2 x3 D k25) := by
  intro n
  induction n with
  | zero => intro x1 x2 x3 D; exact fr_none
  | succ n ih =>
    intro x1 x2 x3 D
    show ga_fr 4875 4930 D (if 6 ≤ x3 then (k25 x2 D) else (ga_bind (g_X24_isOpen x1 x3 D) (fun r14 D14 => ga_let (aw_or x2 r14) (fun v18 => ga_let (aw_w32 (x3 + 1)) (fun v19 => g_X24_canBar_l4 n x1 v18 v19 D14 k25)))))
    refine fr_ite (fun c7 => ?_) (fun c7 => ?_)
    exact hk25 _ _ 
    refine fr_bind (g_X24_isOpen_fr) (fun r14 D14 => ?_)
    refine fr_let (fun v18 => ?_)
    refine fr_let (fun v19 => ?_)
    exact ih _ _ _ _ 
theorem g_X24_canBar_fr {x1 : Int} {D : ga_D} : ga_fr 4875 4930 D (g_X24_canBar x1 D) := by
  unfold g_X24_canBar
  refine g_X24_canBar_l4_fr (fun x2 D25 => ?_) _ _ _ _ _ 
  refine fr_ck (fun hr26 => ?_)
  exact fr_some
theorem g_X24_mayBegin_j140_fr  {k95 : Int → Int → Int → ga_D → ga_S} (hk95 : ∀ (x1 x2 x3 : Int) (D : ga_D), ga_fr 4875 4930 D (k95 x1 x2 x3 D)) (x1 x3 : Int) (D : ga_D) : ga_fr 4875 4930 D (g_X24_mayBegin_j140 x1 x3 D k95) := by
  unfold g_X24_mayBegin_j140
  refine fr_ck (fun hn144 => ?_)
  refine fr_ite (fun c144 => ?_) (fun c144 => ?_)
  refine fr_let (fun v171 => ?_)
  exact hk95 _ _ _ _ 
  refine fr_ck (fun ha155 => ?_)
  refine fr_ite (fun c162 => ?_) (fun c162 => ?_)
  refine fr_let (fun v171 => ?_)
  exact hk95 _ _ _ _ 
  refine fr_let (fun v171 => ?_)
  exact hk95 _ _ _ _ 
theorem g_X24_mayBegin_j125_fr  {k95 : Int → Int → Int → ga_D → ga_S} (hk95 : ∀ (x1 x2 x3 : Int) (D : ga_D), ga_fr 4875 4930 D (k95 x1 x2 x3 D)) (x1 x3 : Int) (D : ga_D) : ga_fr 4875 4930 D (g_X24_mayBegin_j125 x1 x3 D k95) := by
  unfold g_X24_mayBegin_j125
  refine fr_ck (fun hn129 => ?_)
  refine fr_ite (fun c129 => ?_) (fun c129 => ?_)
  refine g_X24_mayBegin_j140_fr (fun x1 x2 x3 D95 => ?_) _ _ _ 
  exact hk95 _ _ _ _ 
  refine fr_bind (g_X24_canBar_fr) (fun r134 D134 => ?_)
  refine fr_ite (fun c137 => ?_) (fun c137 => ?_)
  refine fr_let (fun v171 => ?_)
  exact hk95 _ _ _ _ 
  refine g_X24_mayBegin_j140_fr (fun x1 x2 x3 D95 => ?_) _ _ _ 
  exact hk95 _ _ _ _ 
theorem g_X24_mayBegin_l95_fr  {k177 : Int → ga_D → ga_S} (hk177 : ∀ (x2 : Int) (D : ga_D), ga_fr 4875 4930 D (k177 x2 D)) : ∀ (n : Nat) (x1 x2 x3 : Int) (D : ga_D), ga_fr 4875 4930 D (g_X24_mayBegin_l95 n x1 x2 x3 D k177) := by
  intro n
  induction n with
  | zero => intro x1 x2 x3 D; exact fr_none
  | succ n ih =>
    intro x1 x2 x3 D
    show ga_fr 4875 4930 D (if D 4901 0 ≤ x3 then (k177 x2 D) else (if x2 ≠ 0 then (k177 x2 D) else (ga_ck (x1 = 0 ∨ ga_K x1 = (901, 0)) (if x1 ≠ 131 then (g_X24_mayBegin_j125 x1 x3 D (fun x1 x2 x3 D95 => g_X24_mayBegin_l95 n x1 x2 x3 D95 k177)) else (ga_bind (g_X24_canCover x3 D) (fun r119 D119 => if r119 ≠ 0 then (ga_let (aw_w32 (x3 + 1)) (fun v171 => g_X24_mayBegin_l95 n x1 1 v171 D119 k177)) else (g_X24_mayBegin_j125 x1 x3 D119 (fun x1 x2 x3 D95 => g_X24_mayBegin_l95 n x1 x2 x3 D95 k177))))))))
    refine fr_ite (fun c103 => ?_) (fun c103 => ?_)
    exact hk177 _ _ 
    refine fr_ite (fun c107 => ?_) (fun c107 => ?_)
    exact hk177 _ _ 
    refine fr_ck (fun hn114 => ?_)
    refine fr_ite (fun c114 => ?_) (fun c114 => ?_)
    refine g_X24_mayBegin_j125_fr (fun x1 x2 x3 D95 => ?_) _ _ _ 
    exact ih _ _ _ _ 
    refine fr_bind (g_X24_canCover_fr) (fun r119 D119 => ?_)
    refine fr_ite (fun c122 => ?_) (fun c122 => ?_)
    refine fr_let (fun v171 => ?_)
    exact ih _ _ _ _ 
    refine g_X24_mayBegin_j125_fr (fun x1 x2 x3 D95 => ?_) _ _ _ 
    exact ih _ _ _ _ 
theorem g_X24_mayBegin_j39_fr  (x1 : Int) (D : ga_D) : ga_fr 4875 4930 D (g_X24_mayBegin_j39 x1 D) := by
  unfold g_X24_mayBegin_j39
  refine fr_ite (fun c46 => ?_) (fun c46 => ?_)
  refine g_X24_mayBegin_l95_fr (fun x2 D177 => ?_) _ _ _ _ _ 
  refine fr_ck (fun hr178 => ?_)
  exact fr_some
  refine g_X24_mayBegin_l95_fr (fun x2 D177 => ?_) _ _ _ _ _ 
  refine fr_ck (fun hr178 => ?_)
  exact fr_some
theorem g_X24_mayBegin_fr {x1 : Int} {D : ga_D} : ga_fr 4875 4930 D (g_X24_mayBegin x1 D) := by
  unfold g_X24_mayBegin
  refine fr_ck (fun hn4 => ?_)
  refine fr_ite (fun c4 => ?_) (fun c4 => ?_)
  refine fr_ck (fun hn29 => ?_)
  refine fr_ite (fun c29 => ?_) (fun c29 => ?_)
  refine g_X24_mayBegin_j39_fr _ _ 
  refine fr_ck (fun hn36 => ?_)
  refine fr_ite (fun c36 => ?_) (fun c36 => ?_)
  refine fr_ck (fun hn61 => ?_)
  refine fr_ite (fun c61 => ?_) (fun c61 => ?_)
  refine g_X24_mayBegin_l95_fr (fun x2 D177 => ?_) _ _ _ _ _ 
  refine fr_ck (fun hr178 => ?_)
  exact fr_some
  refine fr_ite (fun c73 => ?_) (fun c73 => ?_)
  refine g_X24_mayBegin_l95_fr (fun x2 D177 => ?_) _ _ _ _ _ 
  refine fr_ck (fun hr178 => ?_)
  exact fr_some
  refine fr_ite (fun c84 => ?_) (fun c84 => ?_)
  refine g_X24_mayBegin_l95_fr (fun x2 D177 => ?_) _ _ _ _ _ 
  refine fr_ck (fun hr178 => ?_)
  exact fr_some
  refine g_X24_mayBegin_l95_fr (fun x2 D177 => ?_) _ _ _ _ _ 
  refine fr_ck (fun hr178 => ?_)
  exact fr_some
  refine g_X24_mayBegin_j39_fr _ _ 
  refine fr_ite (fun c16 => ?_) (fun c16 => ?_)
  exact fr_some
  exact fr_some
theorem g_X24_numberAt_l30_fr  {k88 : Int → ga_D → ga_S} (hk88 : ∀ (x3 : Int) (D : ga_D), ga_fr 4875 4930 D (k88 x3 D)) : ∀ (n : Nat) (x2 x3 x5 : Int) (D : ga_D), ga_fr 4875 4930 D (g_X24_numberAt_l30 n x2 x3 x5 D k88) := by
  intro n
  induction n with
  | zero => intro x2 x3 x5 D; exact fr_none
  | succ n ih =>
    intro x2 x3 x5 D
    show ga_fr 4875 4930 D (if x2 ≤ x5 then (k88 x3 D) else (if x3 < 0 then (k88 x3 D) else (ga_ck (0 ≤ x5 ∧ x5 < 2000) (ga_let (aw_w32 ((D 4926 x5) - 48)) (fun v52 => if v52 < 0 then (ga_let (aw_w32 (x5 + 1)) (fun v82 => g_X24_numberAt_l30 n x2 (-1) v82 D k88)) else (if v52 ≤ 9 then (ga_let (aw_w64 ((aw_w64 (10 * x3)) + v52)) (fun v81 => ga_let (aw_w32 (x5 + 1)) (fun v82 => g_X24_numberAt_l30 n x2 v81 v82 D k88))) else (ga_let (aw_w32 (x5 + 1)) (fun v82 => g_X24_numberAt_l30 n x2 (-1) v82 D k88))))))))
    refine fr_ite (fun c33 => ?_) (fun c33 => ?_)
    exact hk88 _ _ 
    refine fr_ite (fun c39 => ?_) (fun c39 => ?_)
    exact hk88 _ _ 
    refine fr_ck (fun ha48 => ?_)
    refine fr_let (fun v52 => ?_)
    refine fr_ite (fun c56 => ?_) (fun c56 => ?_)
    refine fr_let (fun v82 => ?_)
    exact ih _ _ _ _ 
    refine fr_ite (fun c63 => ?_) (fun c63 => ?_)
    refine fr_let (fun v81 => ?_)
    refine fr_let (fun v82 => ?_)
    exact ih _ _ _ _ 
    refine fr_let (fun v82 => ?_)
    exact ih _ _ _ _ 
theorem g_X24_numberAt_fr {x1 : Int} {D : ga_D} : ga_fr 4875 4930 D (g_X24_numberAt x1 D) := by
  unfold g_X24_numberAt
  refine fr_bind (g_X24_wordEnd_fr) (fun r2 D2 => ?_)
  refine fr_ite (fun c8 => ?_) (fun c8 => ?_)
  refine g_X24_numberAt_l30_fr (fun x3 D88 => ?_) _ _ _ _ _ 
  exact fr_some
  refine fr_ite (fun c16 => ?_) (fun c16 => ?_)
  refine g_X24_numberAt_l30_fr (fun x3 D88 => ?_) _ _ _ _ _ 
  exact fr_some
  refine g_X24_numberAt_l30_fr (fun x3 D88 => ?_) _ _ _ _ _ 
  exact fr_some
theorem g_X26_set_l32_fr  {k51 : ga_D → ga_S} (hk51 : ∀ (D : ga_D), ga_fr 4875 4930 D (k51 D)) : ∀ (n : Nat) (x0 x3 : Int) (D : ga_D), ga_fr 4875 4930 D (g_X26_set_l32 n x0 x3 D k51) := by
  intro n
  induction n with
  | zero => intro x0 x3 D; exact fr_none
  | succ n ih =>
    intro x0 x3 D
    show ga_fr 4875 4930 D (if 6 ≤ x3 then (k51 D) else (ga_ck (ga_K x0 = (24, 0)) (ga_ck (0 ≤ x3 ∧ x3 < 6) (ga_let (ga_set D ((x0 + 1)) x3 0) (fun D44 => ga_let (aw_w32 (x3 + 1)) (fun v45 => g_X26_set_l32 n x0 v45 D44 k51))))))
    refine fr_ite (fun c35 => ?_) (fun c35 => ?_)
    exact hk51 _ 
    refine fr_ck (fun hk39_0 => ?_)
    refine fr_ck (fun ha44 => ?_)
    refine fr_upd (rg_24_1 hk39_0) (fun D44 => ?_)
    refine fr_let (fun v45 => ?_)
    exact ih _ _ _ 
theorem g_X26_set_fr {x0 x1 x2 : Int} {D : ga_D} : ga_fr 4875 4930 D (g_X26_set x0 x1 x2 D) := by
  unfold g_X26_set
  refine fr_ck (fun hk2_0 => ?_)
  refine fr_upd (by have := rg_24_0 hk2_0; omega) (fun D2 => ?_)
  refine fr_upd (by have := rg_24_0 hk2_0; omega) (fun D7 => ?_)
  refine fr_upd (by have := rg_24_0 hk2_0; omega) (fun D12 => ?_)
  refine fr_upd (by have := rg_24_0 hk2_0; omega) (fun D17 => ?_)
  refine fr_upd (by have := rg_24_0 hk2_0; omega) (fun D22 => ?_)
  refine fr_upd (by have := rg_24_0 hk2_0; omega) (fun D27 => ?_)
  refine g_X26_set_l32_fr (fun D51 => ?_) _ _ _ _ 
  exact fr_some
theorem g_X25_part_fr {x0 x1 x3 : Int} {D : ga_D} : ga_fr 4875 4930 D (g_X25_part x0 x1 x3 D) := by
  unfold g_X25_part
  refine fr_ck (fun hk1_0 => ?_)
  refine fr_ite (fun c6 => ?_) (fun c6 => ?_)
  exact fr_some
  refine fr_ite (fun c12 => ?_) (fun c12 => ?_)
  exact fr_some
  refine fr_ite (fun c20 => ?_) (fun c20 => ?_)
  exact fr_some
  refine fr_ite (fun c26 => ?_) (fun c26 => ?_)
  exact fr_some
  refine fr_ite (fun c34 => ?_) (fun c34 => ?_)
  refine fr_ck (fun ha47 => ?_)
  refine fr_bind (g_X26_set_fr) (fun r52 D52 => ?_)
  refine fr_upd (by have := rg_23_0 hk1_0; omega) (fun D63 => ?_)
  exact fr_some
  exact fr_some
theorem g_X25_areTwo_fr {x0 x1 x3 : Int} {D : ga_D} : ga_fr 4875 4930 D (g_X25_areTwo x0 x1 x3 D) := by
  unfold g_X25_areTwo
  refine fr_bind (g_X25_isPart_fr) (fun r2 D2 => ?_)
  refine fr_ck (fun hk2_0 => ?_)
  refine fr_ite (fun c5 => ?_) (fun c5 => ?_)
  exact fr_some
  refine fr_bind (g_X25_isPart_fr) (fun r10 D10 => ?_)
  refine fr_ite (fun c13 => ?_) (fun c13 => ?_)
  exact fr_some
  refine fr_ite (fun c19 => ?_) (fun c19 => ?_)
  exact fr_some
  exact fr_some
theorem g_X25_cover_fr {x0 x1 x3 : Int} {D : ga_D} : ga_fr 4875 4930 D (g_X25_cover x0 x1 x3 D) := by
  unfold g_X25_cover
  refine fr_bind (g_X25_areTwo_fr) (fun r3 D3 => ?_)
  refine fr_ck (fun hk3_0 => ?_)
  refine fr_ite (fun c6 => ?_) (fun c6 => ?_)
  exact fr_some
  refine fr_ck (fun ha15 => ?_)
  refine fr_ite (fun c25 => ?_) (fun c25 => ?_)
  refine fr_ck (fun ha36 => ?_)
  refine fr_upd (by have := rg_24_0 (KEO_23_1 hk3_0 ha36.1 ha36.2); omega) (fun D46 => ?_)
  exact fr_some
  exact fr_some
theorem g_X25_canWay_fr {x0 x1 x3 x5 : Int} {D : ga_D} : ga_fr 4875 4930 D (g_X25_canWay x0 x1 x3 x5 D) := by
  unfold g_X25_canWay
  refine fr_bind (g_X25_isPart_fr) (fun r2 D2 => ?_)
  refine fr_ck (fun hk2_0 => ?_)
  refine fr_ite (fun c5 => ?_) (fun c5 => ?_)
  exact fr_some
  refine fr_bind (g_X25_isPart_fr) (fun r11 D11 => ?_)
  refine fr_ite (fun c14 => ?_) (fun c14 => ?_)
  exact fr_some
  refine fr_ite (fun c20 => ?_) (fun c20 => ?_)
  exact fr_some
  refine fr_ite (fun c28 => ?_) (fun c28 => ?_)
  exact fr_some
  exact fr_some
theorem g_X25_way_fr {x0 x1 x3 x5 : Int} {D : ga_D} : ga_fr 4875 4930 D (g_X25_way x0 x1 x3 x5 D) := by
  unfold g_X25_way
  refine fr_ck (fun hk1_0 => ?_)
  refine fr_ck (fun ha6 => ?_)
  refine fr_ite (fun c16 => ?_) (fun c16 => ?_)
  exact fr_some
  refine fr_ck (fun ha23 => ?_)
  refine fr_ite (fun c31 => ?_) (fun c31 => ?_)
  refine fr_ck (fun ha41 => ?_)
  refine fr_ck (fun ha48 => ?_)
  refine fr_upd (by have := rg_24_1 (KEO_23_1 hk1_0 ha6.1 ha6.2); omega) (fun D48 => ?_)
  exact fr_some
  exact fr_some
theorem g_X25_fasten_fr {x0 x1 x3 x5 : Int} {D : ga_D} : ga_fr 4875 4930 D (g_X25_fasten x0 x1 x3 x5 D) := by
  unfold g_X25_fasten
  refine fr_ck (fun hk1_0 => ?_)
  refine fr_ite (fun c6 => ?_) (fun c6 => ?_)
  exact fr_some
  refine fr_bind (g_X25_areTwo_fr) (fun r12 D12 => ?_)
  refine fr_ite (fun c15 => ?_) (fun c15 => ?_)
  exact fr_some
  refine fr_ite (fun c22 => ?_) (fun c22 => ?_)
  exact fr_some
  refine fr_ite (fun c31 => ?_) (fun c31 => ?_)
  refine fr_ck (fun ha47 => ?_)
  refine fr_upd (rg_23_2 hk1_0) (fun D47 => ?_)
  refine fr_ck (fun ha59 => ?_)
  refine fr_upd (rg_23_3 hk1_0) (fun D59 => ?_)
  refine fr_ck (fun ha72 => ?_)
  refine fr_upd (rg_23_4 hk1_0) (fun D72 => ?_)
  refine fr_upd (by have := rg_23_0 hk1_0; omega) (fun D81 => ?_)
  exact fr_some
  exact fr_some
theorem g_X25_hazard_fr {x0 x1 x3 : Int} {D : ga_D} : ga_fr 4875 4930 D (g_X25_hazard x0 x1 x3 D) := by
  unfold g_X25_hazard
  refine fr_bind (g_X25_isPart_fr) (fun r2 D2 => ?_)
  refine fr_ck (fun hk2_0 => ?_)
  refine fr_ite (fun c5 => ?_) (fun c5 => ?_)
  exact fr_some
  refine fr_ite (fun c11 => ?_) (fun c11 => ?_)
  exact fr_some
  refine fr_ite (fun c19 => ?_) (fun c19 => ?_)
  exact fr_some
  refine fr_ck (fun ha28 => ?_)
  refine fr_ite (fun c38 => ?_) (fun c38 => ?_)
  refine fr_ck (fun ha49 => ?_)
  refine fr_upd (by have := rg_24_0 (KEO_23_1 hk2_0 ha49.1 ha49.2); omega) (fun D59 => ?_)
  exact fr_some
  exact fr_some
theorem g_X25_option_fr {x0 x1 x3 : Int} {D : ga_D} : ga_fr 4875 4930 D (g_X25_option x0 x1 x3 D) := by
  unfold g_X25_option
  refine fr_bind (g_X25_isPart_fr) (fun r2 D2 => ?_)
  refine fr_ck (fun hk2_0 => ?_)
  refine fr_ite (fun c5 => ?_) (fun c5 => ?_)
  exact fr_some
  refine fr_ite (fun c11 => ?_) (fun c11 => ?_)
  exact fr_some
  refine fr_ite (fun c19 => ?_) (fun c19 => ?_)
  exact fr_some
  refine fr_ck (fun ha28 => ?_)
  refine fr_ite (fun c35 => ?_) (fun c35 => ?_)
  refine fr_ck (fun ha46 => ?_)
  refine fr_upd (by have := rg_24_0 (KEO_23_1 hk2_0 ha46.1 ha46.2); omega) (fun D49 => ?_)
  exact fr_some
  exact fr_some
theorem g_X25_damage_fr {x0 x1 x3 : Int} {D : ga_D} : ga_fr 4875 4930 D (g_X25_damage x0 x1 x3 D) := by
  unfold g_X25_damage
  refine fr_bind (g_X25_isPart_fr) (fun r2 D2 => ?_)
  refine fr_ck (fun hk2_0 => ?_)
  refine fr_ite (fun c5 => ?_) (fun c5 => ?_)
  exact fr_some
  refine fr_ite (fun c11 => ?_) (fun c11 => ?_)
  exact fr_some
  refine fr_ite (fun c19 => ?_) (fun c19 => ?_)
  refine fr_ck (fun ha30 => ?_)
  refine fr_let (fun v34 => ?_)
  refine fr_ck (fun ha42 => ?_)
  refine fr_upd (by have := rg_24_0 (KEO_23_1 hk2_0 ha42.1 ha42.2); omega) (fun D45 => ?_)
  exact fr_some
  exact fr_some
theorem g_X24_mayStand_fr {x1 x2 : Int} {D : ga_D} : ga_fr 4875 4930 D (g_X24_mayStand x1 x2 D) := by
  unfold g_X24_mayStand
  refine fr_ck (fun ha7 => ?_)
  refine fr_let (fun v8 => ?_)
  refine fr_ck (fun hk10_0 => ?_)
  refine fr_ite (fun n13_0 => ?_) (fun n13_0 => ?_)
  refine fr_ite (fun c54 => ?_) (fun c54 => ?_)
  refine fr_ck (fun ha94 => ?_)
  refine fr_ck (fun ha100 => ?_)
  refine fr_bind (g_X25_part_fr) (fun r101 D101 => ?_)
  refine fr_ite (fun c105 => ?_) (fun c105 => ?_)
  exact fr_some
  exact fr_some
  refine fr_ite (fun c62 => ?_) (fun c62 => ?_)
  exact fr_some
  refine fr_ite (fun c74 => ?_) (fun c74 => ?_)
  exact fr_some
  exact fr_some
  refine fr_ite (fun n13_1 => ?_) (fun n13_1 => ?_)
  refine fr_ite (fun c116 => ?_) (fun c116 => ?_)
  refine fr_ck (fun ha156 => ?_)
  refine fr_ck (fun ha162 => ?_)
  refine fr_bind (g_X25_cover_fr) (fun r163 D163 => ?_)
  refine fr_ck (fun hr166 => ?_)
  exact fr_some
  refine fr_bind (g_X25_isPart_fr) (fun r124 D124 => ?_)
  refine fr_ite (fun c127 => ?_) (fun c127 => ?_)
  exact fr_some
  refine fr_bind (g_X24_canCover_fr) (fun r133 D133 => ?_)
  refine fr_ite (fun c136 => ?_) (fun c136 => ?_)
  exact fr_some
  exact fr_some
  refine fr_ite (fun n13_2 => ?_) (fun n13_2 => ?_)
  refine fr_ite (fun c169 => ?_) (fun c169 => ?_)
  refine fr_ite (fun c202 => ?_) (fun c202 => ?_)
  refine fr_ck (fun ha246 => ?_)
  refine fr_ck (fun ha252 => ?_)
  refine fr_ck (fun ha258 => ?_)
  refine fr_bind (g_X25_canWay_fr) (fun r259 D259 => ?_)
  refine fr_ite (fun c262 => ?_) (fun c262 => ?_)
  exact fr_some
  refine fr_ck (fun ha274 => ?_)
  refine fr_ck (fun ha280 => ?_)
  refine fr_ck (fun ha286 => ?_)
  refine fr_bind (g_X25_way_fr) (fun r287 D287 => ?_)
  refine fr_ite (fun c290 => ?_) (fun c290 => ?_)
  exact fr_some
  exact fr_some
  refine fr_ite (fun c210 => ?_) (fun c210 => ?_)
  exact fr_some
  refine fr_ck (fun ha219 => ?_)
  refine fr_bind (g_X24_isOpen_fr) (fun r223 D223 => ?_)
  refine fr_ite (fun c226 => ?_) (fun c226 => ?_)
  exact fr_some
  exact fr_some
  refine fr_bind (g_X25_isPart_fr) (fun r177 D177 => ?_)
  refine fr_ite (fun c180 => ?_) (fun c180 => ?_)
  exact fr_some
  refine fr_bind (g_X24_canBar_fr) (fun r186 D186 => ?_)
  refine fr_ite (fun c189 => ?_) (fun c189 => ?_)
  exact fr_some
  exact fr_some
  refine fr_ite (fun n13_3 => ?_) (fun n13_3 => ?_)
  refine fr_ite (fun c301 => ?_) (fun c301 => ?_)
  refine fr_ite (fun c348 => ?_) (fun c348 => ?_)
  refine fr_ck (fun ha377 => ?_)
  refine fr_ck (fun ha383 => ?_)
  refine fr_ck (fun ha389 => ?_)
  refine fr_bind (g_X25_fasten_fr) (fun r390 D390 => ?_)
  refine fr_ite (fun c394 => ?_) (fun c394 => ?_)
  exact fr_some
  exact fr_some
  refine fr_ck (fun ha360 => ?_)
  refine fr_bind (g_X25_areTwo_fr) (fun r362 D362 => ?_)
  refine fr_ck (fun hr402 => ?_)
  exact fr_some
  refine fr_bind (g_X25_isPart_fr) (fun r309 D309 => ?_)
  refine fr_ite (fun c312 => ?_) (fun c312 => ?_)
  exact fr_some
  refine fr_ite (fun c323 => ?_) (fun c323 => ?_)
  exact fr_some
  refine fr_ite (fun c335 => ?_) (fun c335 => ?_)
  exact fr_some
  exact fr_some
  refine fr_ite (fun n13_4 => ?_) (fun n13_4 => ?_)
  refine fr_ite (fun c405 => ?_) (fun c405 => ?_)
  refine fr_ck (fun ha455 => ?_)
  refine fr_ck (fun ha461 => ?_)
  refine fr_bind (g_X25_hazard_fr) (fun r462 D462 => ?_)
  refine fr_ck (fun hr465 => ?_)
  exact fr_some
  refine fr_bind (g_X25_isPart_fr) (fun r413 D413 => ?_)
  refine fr_ite (fun c416 => ?_) (fun c416 => ?_)
  exact fr_some
  refine fr_ck (fun ha428 => ?_)
  refine fr_ite (fun c435 => ?_) (fun c435 => ?_)
  exact fr_some
  exact fr_some
  refine fr_ite (fun n13_5 => ?_) (fun n13_5 => ?_)
  refine fr_ite (fun c468 => ?_) (fun c468 => ?_)
  refine fr_ck (fun ha491 => ?_)
  refine fr_ck (fun ha497 => ?_)
  refine fr_bind (g_X25_option_fr) (fun r498 D498 => ?_)
  refine fr_ck (fun hr501 => ?_)
  exact fr_some
  refine fr_bind (g_X25_isPart_fr) (fun r476 D476 => ?_)
  refine fr_ck (fun hr501 => ?_)
  exact fr_some
  refine fr_ite (fun c504 => ?_) (fun c504 => ?_)
  refine fr_ck (fun ha527 => ?_)
  refine fr_ck (fun ha533 => ?_)
  refine fr_bind (g_X25_damage_fr) (fun r534 D534 => ?_)
  refine fr_ite (fun c538 => ?_) (fun c538 => ?_)
  exact fr_some
  exact fr_some
  refine fr_bind (g_X25_isPart_fr) (fun r512 D512 => ?_)
  refine fr_ck (fun hr546 => ?_)
  exact fr_some
theorem g_X24_wrong_j87_fr  {k110 : Int → ga_D → ga_S} {k53 : Int → Int → Int → ga_D → ga_S} (hk110 : ∀ (x1 : Int) (D : ga_D), ga_fr 4875 4930 D (k110 x1 D)) (hk53 : ∀ (x1 x2 x3 : Int) (D : ga_D), ga_fr 4875 4930 D (k53 x1 x2 x3 D)) (x1 x2 x3 s0 s1 s2 : Int) (D : ga_D) : ga_fr 4875 4930 D (g_X24_wrong_j87 x1 x2 x3 s0 s1 s2 D k110 k53) := by
  unfold g_X24_wrong_j87
  refine fr_ck (fun ha87_0 => ?_)
  refine fr_ck (fun hg87_1 => ?_)
  refine fr_ck (fun ha87 => ?_)
  refine fr_upd (by omega) (fun D87 => ?_)
  refine fr_ck (fun ha95 => ?_)
  refine fr_ite (fun c98 => ?_) (fun c98 => ?_)
  exact hk110 _ _ 
  refine fr_bind (g_X24_mayStand_fr) (fun r104 D104 => ?_)
  refine fr_ite (fun c107 => ?_) (fun c107 => ?_)
  refine fr_bind (g_X24_wordEnd_fr) (fun r115 D115 => ?_)
  refine fr_bind (g_X24_skip_fr) (fun r118 D118 => ?_)
  refine fr_let (fun v122 => ?_)
  exact hk53 _ _ _ _ 
  exact hk110 _ _ 
theorem g_X24_wrong_l53_fr  {k110 : Int → ga_D → ga_S} {k128 : Int → ga_D → ga_S} (hk110 : ∀ (x1 : Int) (D : ga_D), ga_fr 4875 4930 D (k110 x1 D)) (hk128 : ∀ (x1 : Int) (D : ga_D), ga_fr 4875 4930 D (k128 x1 D)) : ∀ (n : Nat) (x1 x2 x3 : Int) (D : ga_D), ga_fr 4875 4930 D (g_X24_wrong_l53 n x1 x2 x3 D k110 k128) := by
  intro n
  induction n with
  | zero => intro x1 x2 x3 D; exact fr_none
  | succ n ih =>
    intro x1 x2 x3 D
    show ga_fr 4875 4930 D (ga_ck (ga_K x2 = (901, 0)) (if D x2 2 < x3 then (k128 x1 D) else (if D 4875 3 ≤ x1 then (g_X24_wrong_j87 x1 x2 x3 (-1) (aw_w32 (x3 - 1)) 4928 D (fun x1 D110 => k110 x1 D110) (fun x1 x2 x3 D53 => g_X24_wrong_l53 n x1 x2 x3 D53 k110 k128)) else (ga_bind (g_X24_numberAt x1 D) (fun r78 D78 => g_X24_wrong_j87 x1 x2 x3 r78 (aw_w32 (x3 - 1)) 4928 D78 (fun x1 D110 => k110 x1 D110) (fun x1 x2 x3 D53 => g_X24_wrong_l53 n x1 x2 x3 D53 k110 k128))))))
    refine fr_ck (fun hk55_0 => ?_)
    refine fr_ite (fun c58 => ?_) (fun c58 => ?_)
    exact hk128 _ _ 
    refine fr_ite (fun c73 => ?_) (fun c73 => ?_)
    refine g_X24_wrong_j87_fr (fun x1 D110 => ?_) (fun x1 x2 x3 D53 => ?_) _ _ _ _ _ _ _ 
    exact hk110 _ _ 
    exact ih _ _ _ _ 
    refine fr_bind (g_X24_numberAt_fr) (fun r78 D78 => ?_)
    refine g_X24_wrong_j87_fr (fun x1 D110 => ?_) (fun x1 x2 x3 D53 => ?_) _ _ _ _ _ _ _ 
    exact hk110 _ _ 
    exact ih _ _ _ _ 
theorem g_X24_wrong_l13_fr  {k39 : Int → ga_D → ga_S} {k110 : Int → ga_D → ga_S} {k131 : ga_D → ga_S} (hk39 : ∀ (x1 : Int) (D : ga_D), ga_fr 4875 4930 D (k39 x1 D)) (hk110 : ∀ (x1 : Int) (D : ga_D), ga_fr 4875 4930 D (k110 x1 D)) (hk131 : ∀ (D : ga_D), ga_fr 4875 4930 D (k131 D)) : ∀ (n : Nat) (x1 : Int) (D : ga_D), ga_fr 4875 4930 D (g_X24_wrong_l13 n x1 D k39 k110 k131) := by
  intro n
  induction n with
  | zero => intro x1 D; exact fr_none
  | succ n ih =>
    intro x1 D
    show ga_fr 4875 4930 D (if D 4875 3 ≤ x1 then (k131 D) else (ga_bind (g_X24_sentenceAt x1 D) (fun r23 D23 => if r23 = 0 then (k39 x1 D23) else (ga_bind (g_X24_mayBegin r23 D23) (fun r33 D33 => if r33 ≠ 0 then (ga_bind (g_X24_wordEnd x1 D33) (fun r44 D44 => ga_bind (g_X24_skip r44 D44) (fun r47 D47 => g_X24_wrong_l53 aw_fu r47 r23 1 D47 (fun x1 D110 => k110 x1 D110) (fun x1 D128 => g_X24_wrong_l13 n x1 D128 k39 k110 k131)))) else (k39 x1 D33))))))
    refine fr_ite (fun c18 => ?_) (fun c18 => ?_)
    exact hk131 _ 
    refine fr_bind (g_X24_sentenceAt_fr) (fun r23 D23 => ?_)
    refine fr_ite (fun c28 => ?_) (fun c28 => ?_)
    exact hk39 _ _ 
    refine fr_bind (g_X24_mayBegin_fr) (fun r33 D33 => ?_)
    refine fr_ite (fun c36 => ?_) (fun c36 => ?_)
    refine fr_bind (g_X24_wordEnd_fr) (fun r44 D44 => ?_)
    refine fr_bind (g_X24_skip_fr) (fun r47 D47 => ?_)
    refine g_X24_wrong_l53_fr (fun x1 D110 => ?_) (fun x1 D128 => ?_) _ _ _ _ _ 
    exact hk110 _ _ 
    exact ih _ _ 
    exact hk39 _ _ 
theorem g_X24_wrong_fr {D : ga_D} : ga_fr 4875 4930 D (g_X24_wrong D) := by
  unfold g_X24_wrong
  refine fr_bind (g_X25_clear_fr) (fun r4 D4 => ?_)
  refine fr_bind (g_X24_skip_fr) (fun r9 D9 => ?_)
  refine g_X24_wrong_l13_fr (fun x1 D39 => ?_) (fun x1 D110 => ?_) (fun D131 => ?_) _ _ _ 
  exact fr_some
  exact fr_some
  exact fr_some
theorem g_X26_copy_fr {x0 x1 : Int} {D : ga_D} : ga_fr 4875 4930 D (g_X26_copy x0 x1 D) := by
  unfold g_X26_copy
  refine fr_ck (fun hk2_0 => ?_)
  refine fr_bind (g_X26_set_fr) (fun r9 D9 => ?_)
  refine fr_ck (fun hk9_1 => ?_)
  refine fr_upd (by have := rg_24_0 hk9_1; omega) (fun D17 => ?_)
  refine fr_upd (by have := rg_24_0 hk9_1; omega) (fun D25 => ?_)
  refine fr_upd (by have := rg_24_0 hk9_1; omega) (fun D33 => ?_)
  refine fr_upd (by have := rg_24_0 hk9_1; omega) (fun D41 => ?_)
  refine fr_ck (fun ha56 => ?_)
  refine fr_cpy (rg_24_1 hk9_1) (fun D56 => ?_)
  exact fr_some
theorem g_X25_copy_l18_fr  {k47 : Int → Int → ga_D → ga_S} (hk47 : ∀ (x0 x1 : Int) (D : ga_D), ga_fr 4875 4930 D (k47 x0 x1 D)) : ∀ (n : Nat) (x0 x1 x2 : Int) (D : ga_D), ga_fr 4875 4930 D (g_X25_copy_l18 n x0 x1 x2 D k47) := by
  intro n
  induction n with
  | zero => intro x0 x1 x2 D; exact fr_none
  | succ n ih =>
    intro x0 x1 x2 D
    show ga_fr 4875 4930 D (ga_ck (ga_K x0 = (23, 0)) (if D x0 0 ≤ x2 then (k47 x0 x1 D) else (ga_ck (0 ≤ x2 ∧ x2 < 10) (ga_ck (ga_K x1 = (23, 0)) (ga_ck (0 ≤ x2 ∧ x2 < 10) (ga_bind (g_X26_copy ((x0 + 2 * x2 + 5)) ((x1 + 2 * x2 + 5)) D) (fun r38 D38 => ga_let (aw_w32 (x2 + 1)) (fun v41 => g_X25_copy_l18 n x0 x1 v41 D38 k47))))))))
    refine fr_ck (fun hk20_0 => ?_)
    refine fr_ite (fun c23 => ?_) (fun c23 => ?_)
    exact hk47 _ _ _ 
    refine fr_ck (fun ha31 => ?_)
    refine fr_ck (fun hk33_0 => ?_)
    refine fr_ck (fun ha37 => ?_)
    refine fr_bind (g_X26_copy_fr) (fun r38 D38 => ?_)
    refine fr_let (fun v41 => ?_)
    exact ih _ _ _ _ 
theorem g_X25_copy_fr {x0 x1 : Int} {D : ga_D} : ga_fr 4875 4930 D (g_X25_copy x0 x1 D) := by
  unfold g_X25_copy
  refine fr_ck (fun hk2_0 => ?_)
  refine fr_ck (fun hk5_1 => ?_)
  refine fr_upd (by have := rg_23_0 hk5_1; omega) (fun D5 => ?_)
  refine fr_upd (by have := rg_23_0 hk5_1; omega) (fun D13 => ?_)
  refine g_X25_copy_l18_fr (fun x0 x1 D47 => ?_) _ _ _ _ _ 
  refine fr_ck (fun hk48_0 => ?_)
  refine fr_ck (fun hk53_1 => ?_)
  refine fr_ck (fun ha61 => ?_)
  refine fr_cpy (rg_23_2 hk53_1) (fun D61 => ?_)
  refine fr_ck (fun ha78 => ?_)
  refine fr_cpy (rg_23_3 hk53_1) (fun D78 => ?_)
  refine fr_ck (fun ha95 => ?_)
  refine fr_cpy (rg_23_4 hk53_1) (fun D95 => ?_)
  exact fr_some
theorem g_X24_read_fr {D : ga_D} : ga_fr 4875 4930 D (g_X24_read D) := by
  unfold g_X24_read
  refine fr_bind (g_X24_wrong_fr) (fun r1 D1 => ?_)
  refine fr_upd (by decide) (fun D7 => ?_)
  refine fr_ite (fun c12 => ?_) (fun c12 => ?_)
  refine fr_bind (g_X25_copy_fr) (fun r27 D27 => ?_)
  exact fr_some
  exact fr_some
theorem g_X24_part_fr {x1 x2 : Int} {D : ga_D} : ga_fr 4875 4930 D (g_X24_part x1 x2 D) := by
  unfold g_X24_part
  refine fr_bind (g_X25_part_fr) (fun r7 D7 => ?_)
  exact fr_some
theorem g_X24_fasten_fr {x1 x2 x3 : Int} {D : ga_D} : ga_fr 4875 4930 D (g_X24_fasten x1 x2 x3 D) := by
  unfold g_X24_fasten
  refine fr_bind (g_X25_fasten_fr) (fun r10 D10 => ?_)
  exact fr_some
theorem g_X24_cover_fr {x1 x2 : Int} {D : ga_D} : ga_fr 4875 4930 D (g_X24_cover x1 x2 D) := by
  unfold g_X24_cover
  refine fr_bind (g_X25_cover_fr) (fun r8 D8 => ?_)
  refine fr_ck (fun hr11 => ?_)
  exact fr_some
theorem g_X24_way_fr {x1 x2 x3 : Int} {D : ga_D} : ga_fr 4875 4930 D (g_X24_way x1 x2 x3 D) := by
  unfold g_X24_way
  refine fr_bind (g_X25_canWay_fr) (fun r10 D10 => ?_)
  refine fr_ite (fun c13 => ?_) (fun c13 => ?_)
  refine fr_bind (g_X25_way_fr) (fun r36 D36 => ?_)
  refine fr_ck (fun hr39 => ?_)
  exact fr_some
  exact fr_some
theorem g_X24_all_fr {D : ga_D} : ga_fr 4875 4930 D (g_X24_all D) := by
  unfold g_X24_all
  exact fr_some
theorem g_X24_ring_fr {x1 : Int} {D : ga_D} : ga_fr 4875 4930 D (g_X24_ring x1 D) := by
  unfold g_X24_ring
  refine fr_bind (g_X24_all_fr) (fun r1 D1 => ?_)
  refine fr_bind (g_X25_comesOff_fr) (fun r9 D9 => ?_)
  refine fr_bind (g_X24_bit_fr) (fun r16 D16 => ?_)
  exact fr_some
theorem g_X24_option_fr {x1 x2 : Int} {D : ga_D} : ga_fr 4875 4930 D (g_X24_option x1 x2 D) := by
  unfold g_X24_option
  refine fr_bind (g_X25_option_fr) (fun r8 D8 => ?_)
  refine fr_ck (fun hr11 => ?_)
  exact fr_some
theorem g_X24_familySet_l4_fr  {k47 : Int → ga_D → ga_S} (hk47 : ∀ (x2 : Int) (D : ga_D), ga_fr 4875 4930 D (k47 x2 D)) : ∀ (n : Nat) (x1 x2 x3 : Int) (D : ga_D), ga_fr 4875 4930 D (g_X24_familySet_l4 n x1 x2 x3 D k47) := by
  intro n
  induction n with
  | zero => intro x1 x2 x3 D; exact fr_none
  | succ n ih =>
    intro x1 x2 x3 D
    show ga_fr 4875 4930 D (if D 4876 0 ≤ x3 then (k47 x2 D) else (ga_ck (0 ≤ x3 ∧ x3 < 10) (if D ((2 * x3 + 4881)) 5 ≠ x1 then (ga_let (aw_or x2 0) (fun v40 => ga_let (aw_w32 (x3 + 1)) (fun v41 => g_X24_familySet_l4 n x1 v40 v41 D k47))) else (ga_let (aw_or x2 (aw_shl 1 x3)) (fun v40 => ga_let (aw_w32 (x3 + 1)) (fun v41 => g_X24_familySet_l4 n x1 v40 v41 D k47))))))
    refine fr_ite (fun c12 => ?_) (fun c12 => ?_)
    exact hk47 _ _ 
    refine fr_ck (fun ha24 => ?_)
    refine fr_ite (fun c29 => ?_) (fun c29 => ?_)
    refine fr_let (fun v40 => ?_)
    refine fr_let (fun v41 => ?_)
    exact ih _ _ _ _ 
    refine fr_let (fun v40 => ?_)
    refine fr_let (fun v41 => ?_)
    exact ih _ _ _ _ 
theorem g_X24_familySet_fr {x1 : Int} {D : ga_D} : ga_fr 4875 4930 D (g_X24_familySet x1 D) := by
  unfold g_X24_familySet
  refine g_X24_familySet_l4_fr (fun x2 D47 => ?_) _ _ _ _ _ 
  exact fr_some
theorem g_X24_family_l12_fr  {k68 : Int → Int → Int → ga_D → ga_S} (hk68 : ∀ (x2 x3 x4 : Int) (D : ga_D), ga_fr 4875 4930 D (k68 x2 x3 x4 D)) : ∀ (n : Nat) (x2 x3 x4 x5 : Int) (D : ga_D), ga_fr 4875 4930 D (g_X24_family_l12 n x2 x3 x4 x5 D k68) := by
  intro n
  induction n with
  | zero => intro x2 x3 x4 x5 D; exact fr_none
  | succ n ih =>
    intro x2 x3 x4 x5 D
    show ga_fr 4875 4930 D (if x5 < 0 then (k68 x2 x3 x4 D) else (if x3 < 0 then (k68 x2 x3 x4 D) else (ga_bind (g_X24_familySet x5 D) (fun r24 D24 => ga_bind (g_J25_bitCount r24 D24) (fun r31 D31 => if r31 ≤ 0 then (ga_let (aw_w32 (x5 + (-1))) (fun v62 => g_X24_family_l12 n x2 x3 x4 v62 D31 k68)) else (ga_ck (r31 ≠ 0) (ga_bind (g_X24_bit r24 (Int.tmod x3 r31) D31) (fun r50 D50 => ga_let (aw_or x4 (aw_shl 1 r50)) (fun v55 => ga_ck (r31 ≠ 0) (ga_let (aw_w32 (Int.tdiv x3 r31)) (fun v61 => ga_let (aw_w32 (x5 + (-1))) (fun v62 => g_X24_family_l12 n x2 v61 v55 v62 D50 k68))))))))))))
    refine fr_ite (fun c14 => ?_) (fun c14 => ?_)
    exact hk68 _ _ _ _ 
    refine fr_ite (fun c18 => ?_) (fun c18 => ?_)
    exact hk68 _ _ _ _ 
    refine fr_bind (g_X24_familySet_fr) (fun r24 D24 => ?_)
    refine fr_bind (g_J25_bitCount_fr) (fun r31 D31 => ?_)
    refine fr_ite (fun c38 => ?_) (fun c38 => ?_)
    refine fr_let (fun v62 => ?_)
    exact ih _ _ _ _ _ 
    refine fr_ck (fun hz49 => ?_)
    refine fr_bind (g_X24_bit_fr) (fun r50 D50 => ?_)
    refine fr_let (fun v55 => ?_)
    refine fr_ck (fun hz60 => ?_)
    refine fr_let (fun v61 => ?_)
    refine fr_let (fun v62 => ?_)
    exact ih _ _ _ _ _ 
theorem g_X24_family_j68_fr  (x2 x3 x4 : Int) (D : ga_D) : ga_fr 4875 4930 D (g_X24_family_j68 x2 x3 x4 D) := by
  unfold g_X24_family_j68
  refine fr_ite (fun c69 => ?_) (fun c69 => ?_)
  refine fr_bind (g_X24_bit_fr) (fun r79 D79 => ?_)
  exact fr_some
  exact fr_some
theorem g_X24_family_fr {x1 x2 : Int} {D : ga_D} : ga_fr 4875 4930 D (g_X24_family x1 x2 D) := by
  unfold g_X24_family
  refine fr_bind (g_X24_familySet_fr) (fun r4 D4 => ?_)
  refine g_X24_family_l12_fr (fun x2 x3 x4 D68 => ?_) _ _ _ _ _ _ 
  refine g_X24_family_j68_fr _ _ _ _ 
theorem g_X25_hanging_l19_fr  {k78 : Int → Int → Int → Int → ga_D → ga_S} (hk78 : ∀ (x0 x2 x3 x4 : Int) (D : ga_D), ga_fr 4875 4930 D (k78 x0 x2 x3 x4 D)) : ∀ (n : Nat) (x0 x2 x3 x4 x5 : Int) (D : ga_D), ga_fr 4875 4930 D (g_X25_hanging_l19 n x0 x2 x3 x4 x5 D k78) := by
  intro n
  induction n with
  | zero => intro x0 x2 x3 x4 x5 D; exact fr_none
  | succ n ih =>
    intro x0 x2 x3 x4 x5 D
    show ga_fr 4875 4930 D (ga_ck (ga_K x0 = (23, 0)) (if D x0 2 ≤ x5 then (k78 x0 x2 x3 x4 D) else (ga_ck (0 ≤ x5 ∧ x5 < 20) (ga_ck (0 ≤ x5 ∧ x5 < 20) (ga_let (aw_or (aw_shl 1 (D ((x0 + 2)) x5)) (aw_shl 1 (D ((x0 + 3)) x5))) (fun v47 => if aw_and v47 x2 ≠ 0 then (ga_let (aw_or x3 0) (fun v71 => ga_let (aw_w32 (x5 + 1)) (fun v72 => g_X25_hanging_l19 n x0 x2 v71 x4 v72 D k78))) else (if aw_and v47 x3 = 0 then (ga_let (aw_or x3 0) (fun v71 => ga_let (aw_w32 (x5 + 1)) (fun v72 => g_X25_hanging_l19 n x0 x2 v71 x4 v72 D k78))) else (ga_let (aw_or x3 v47) (fun v71 => ga_let (aw_w32 (x5 + 1)) (fun v72 => g_X25_hanging_l19 n x0 x2 v71 x4 v72 D k78))))))))))
    refine fr_ck (fun hk22_0 => ?_)
    refine fr_ite (fun c25 => ?_) (fun c25 => ?_)
    exact hk78 _ _ _ _ _ 
    refine fr_ck (fun ha35 => ?_)
    refine fr_ck (fun ha44 => ?_)
    refine fr_let (fun v47 => ?_)
    refine fr_ite (fun c54 => ?_) (fun c54 => ?_)
    refine fr_let (fun v71 => ?_)
    refine fr_let (fun v72 => ?_)
    exact ih _ _ _ _ _ _ 
    refine fr_ite (fun c61 => ?_) (fun c61 => ?_)
    refine fr_let (fun v71 => ?_)
    refine fr_let (fun v72 => ?_)
    exact ih _ _ _ _ _ _ 
    refine fr_let (fun v71 => ?_)
    refine fr_let (fun v72 => ?_)
    exact ih _ _ _ _ _ _ 
theorem g_X25_hanging_l7_fr  {k81 : Int → ga_D → ga_S} (hk81 : ∀ (x3 : Int) (D : ga_D), ga_fr 4875 4930 D (k81 x3 D)) : ∀ (n : Nat) (x0 x2 x3 x4 : Int) (D : ga_D), ga_fr 4875 4930 D (g_X25_hanging_l7 n x0 x2 x3 x4 D k81) := by
  intro n
  induction n with
  | zero => intro x0 x2 x3 x4 D; exact fr_none
  | succ n ih =>
    intro x0 x2 x3 x4 D
    show ga_fr 4875 4930 D (if x3 = x4 then (k81 x3 D) else (g_X25_hanging_l19 aw_fu x0 x2 x3 x3 0 D (fun x0 x2 x3 x4 D78 => g_X25_hanging_l7 n x0 x2 x3 x4 D78 k81)))
    refine fr_ite (fun c10 => ?_) (fun c10 => ?_)
    exact hk81 _ _ 
    refine g_X25_hanging_l19_fr (fun x0 x2 x3 x4 D78 => ?_) _ _ _ _ _ _ _ 
    exact ih _ _ _ _ _ 
theorem g_X25_hanging_fr {x0 x1 x2 : Int} {D : ga_D} : ga_fr 4875 4930 D (g_X25_hanging x0 x1 x2 D) := by
  unfold g_X25_hanging
  refine fr_let (fun v3 => ?_)
  refine g_X25_hanging_l7_fr (fun x3 D81 => ?_) _ _ _ _ _ _ 
  exact fr_some
theorem g_X24_holds_j45_fr  (x1 x2 x3 s0 : Int) (D : ga_D) : ga_fr 4875 4930 D (g_X24_holds_j45 x1 x2 x3 s0 D) := by
  unfold g_X24_holds_j45
  refine fr_ite (fun c49 => ?_) (fun c49 => ?_)
  exact fr_some
  refine fr_bind (g_X25_hanging_fr) (fun r58 D58 => ?_)
  refine fr_ite (fun c66 => ?_) (fun c66 => ?_)
  exact fr_some
  exact fr_some
theorem g_X24_holds_j44_fr  (x1 x2 x3 : Int) (D : ga_D) : ga_fr 4875 4930 D (g_X24_holds_j44 x1 x2 x3 D) := by
  unfold g_X24_holds_j44
  refine g_X24_holds_j45_fr _ _ _ _ _ 
theorem g_X24_holds_fr {x1 x2 x3 : Int} {D : ga_D} : ga_fr 4875 4930 D (g_X24_holds x1 x2 x3 D) := by
  unfold g_X24_holds
  refine fr_bind (g_X25_isPart_fr) (fun r6 D6 => ?_)
  refine fr_ite (fun c9 => ?_) (fun c9 => ?_)
  refine g_X24_holds_j44_fr _ _ _ _ 
  refine fr_bind (g_X25_isPart_fr) (fun r18 D18 => ?_)
  refine fr_ite (fun c21 => ?_) (fun c21 => ?_)
  refine g_X24_holds_j44_fr _ _ _ _ 
  refine fr_ite (fun c29 => ?_) (fun c29 => ?_)
  refine g_X24_holds_j44_fr _ _ _ _ 
  refine fr_ite (fun c37 => ?_) (fun c37 => ?_)
  refine g_X24_holds_j44_fr _ _ _ _ 
  refine g_X24_holds_j45_fr _ _ _ _ _ 
theorem g_X26_isAlike_fr {x0 x1 : Int} {D : ga_D} : ga_fr 4875 4930 D (g_X26_isAlike x0 x1 D) := by
  unfold g_X26_isAlike
  refine fr_ck (fun hk1_0 => ?_)
  refine fr_ck (fun hk5_1 => ?_)
  refine fr_ite (fun c8 => ?_) (fun c8 => ?_)
  exact fr_some
  refine fr_ite (fun c19 => ?_) (fun c19 => ?_)
  exact fr_some
  refine fr_ite (fun c30 => ?_) (fun c30 => ?_)
  exact fr_some
  exact fr_some
theorem g_X24_alike_l19_fr  {k79 : Int → Int → ga_D → ga_S} (hk79 : ∀ (x2 x3 : Int) (D : ga_D), ga_fr 4875 4930 D (k79 x2 x3 D)) : ∀ (n : Nat) (x1 x2 x3 x4 : Int) (D : ga_D), ga_fr 4875 4930 D (g_X24_alike_l19 n x1 x2 x3 x4 D k79) := by
  intro n
  induction n with
  | zero => intro x1 x2 x3 x4 D; exact fr_none
  | succ n ih =>
    intro x1 x2 x3 x4 D
    show ga_fr 4875 4930 D (if D 4876 0 ≤ x4 then (k79 x2 x3 D) else (if x4 = x1 then (ga_let (aw_or x3 0) (fun v72 => ga_let (aw_w32 (x4 + 1)) (fun v73 => g_X24_alike_l19 n x1 x2 v72 v73 D k79))) else (ga_ck (0 ≤ x4 ∧ x4 < 10) (ga_ck (0 ≤ x1 ∧ x1 < 10) (ga_bind (g_X26_isAlike ((2 * x4 + 4881)) ((2 * x1 + 4881)) D) (fun r57 D57 => if r57 = 0 then (ga_let (aw_or x3 0) (fun v72 => ga_let (aw_w32 (x4 + 1)) (fun v73 => g_X24_alike_l19 n x1 x2 v72 v73 D57 k79))) else (ga_let (aw_or x3 (aw_shl 1 x4)) (fun v72 => ga_let (aw_w32 (x4 + 1)) (fun v73 => g_X24_alike_l19 n x1 x2 v72 v73 D57 k79)))))))))
    refine fr_ite (fun c28 => ?_) (fun c28 => ?_)
    exact hk79 _ _ _ 
    refine fr_ite (fun c35 => ?_) (fun c35 => ?_)
    refine fr_let (fun v72 => ?_)
    refine fr_let (fun v73 => ?_)
    exact ih _ _ _ _ _ 
    refine fr_ck (fun ha47 => ?_)
    refine fr_ck (fun ha56 => ?_)
    refine fr_bind (g_X26_isAlike_fr) (fun r57 D57 => ?_)
    refine fr_ite (fun c60 => ?_) (fun c60 => ?_)
    refine fr_let (fun v72 => ?_)
    refine fr_let (fun v73 => ?_)
    exact ih _ _ _ _ _ 
    refine fr_let (fun v72 => ?_)
    refine fr_let (fun v73 => ?_)
    exact ih _ _ _ _ _ 
theorem g_X24_alike_fr {x1 x2 : Int} {D : ga_D} : ga_fr 4875 4930 D (g_X24_alike x1 x2 D) := by
  unfold g_X24_alike
  refine fr_bind (g_X25_isPart_fr) (fun r6 D6 => ?_)
  refine fr_ite (fun c9 => ?_) (fun c9 => ?_)
  refine g_X24_alike_l19_fr (fun x2 x3 D79 => ?_) _ _ _ _ _ _ 
  refine fr_bind (g_X24_bit_fr) (fun r81 D81 => ?_)
  exact fr_some
  exact fr_some
theorem g_X24_weight_l38_fr  {k87 : Int → ga_D → ga_S} (hk87 : ∀ (x3 : Int) (D : ga_D), ga_fr 4875 4930 D (k87 x3 D)) : ∀ (n : Nat) (x2 x3 x5 : Int) (D : ga_D), ga_fr 4875 4930 D (g_X24_weight_l38 n x2 x3 x5 D k87) := by
  intro n
  induction n with
  | zero => intro x2 x3 x5 D; exact fr_none
  | succ n ih =>
    intro x2 x3 x5 D
    show ga_fr 4875 4930 D (if D 4876 0 ≤ x5 then (k87 x3 D) else (if aw_and (aw_shr x2 x5) 1 ≠ 1 then (ga_let (aw_w64 (x3 + 0)) (fun v80 => ga_let (aw_w32 (x5 + 1)) (fun v81 => g_X24_weight_l38 n x2 v80 v81 D k87))) else (ga_ck (0 ≤ x5 ∧ x5 < 10) (ga_let (aw_w64 (x3 + (D ((2 * x5 + 4881)) 1))) (fun v80 => ga_let (aw_w32 (x5 + 1)) (fun v81 => g_X24_weight_l38 n x2 v80 v81 D k87))))))
    refine fr_ite (fun c47 => ?_) (fun c47 => ?_)
    exact hk87 _ _ 
    refine fr_ite (fun c58 => ?_) (fun c58 => ?_)
    refine fr_let (fun v80 => ?_)
    refine fr_let (fun v81 => ?_)
    exact ih _ _ _ _ 
    refine fr_ck (fun ha70 => ?_)
    refine fr_let (fun v80 => ?_)
    refine fr_let (fun v81 => ?_)
    exact ih _ _ _ _ 
theorem g_X24_weight_fr {x1 : Int} {D : ga_D} : ga_fr 4875 4930 D (g_X24_weight x1 D) := by
  unfold g_X24_weight
  refine fr_bind (g_X25_isPart_fr) (fun r6 D6 => ?_)
  refine fr_ite (fun c9 => ?_) (fun c9 => ?_)
  refine fr_bind (g_X25_hanging_fr) (fun r29 D29 => ?_)
  refine g_X24_weight_l38_fr (fun x3 D87 => ?_) _ _ _ _ _ 
  exact fr_some
  exact fr_some
theorem g_X24_hazard_fr {x1 x2 : Int} {D : ga_D} : ga_fr 4875 4930 D (g_X24_hazard x1 x2 D) := by
  unfold g_X24_hazard
  refine fr_bind (g_X25_hazard_fr) (fun r8 D8 => ?_)
  refine fr_ck (fun hr11 => ?_)
  exact fr_some
theorem g_X24_damage_fr {x1 x2 : Int} {D : ga_D} : ga_fr 4875 4930 D (g_X24_damage x1 x2 D) := by
  unfold g_X24_damage
  refine fr_bind (g_X25_damage_fr) (fun r8 D8 => ?_)
  exact fr_some
theorem g_X24_free_fr {x1 x2 : Int} {D : ga_D} : ga_fr 4875 4930 D (g_X24_free x1 x2 D) := by
  unfold g_X24_free
  refine fr_bind (g_X25_isPart_fr) (fun r6 D6 => ?_)
  refine fr_ite (fun c9 => ?_) (fun c9 => ?_)
  exact fr_some
  refine fr_ite (fun c19 => ?_) (fun c19 => ?_)
  exact fr_some
  refine fr_ck (fun ha30 => ?_)
  refine fr_bind (g_X26_isFree_fr) (fun r33 D33 => ?_)
  refine fr_ite (fun c36 => ?_) (fun c36 => ?_)
  exact fr_some
  exact fr_some
theorem g_X24_plain_fr {x1 x2 : Int} {D : ga_D} : ga_fr 4875 4930 D (g_X24_plain x1 x2 D) := by
  unfold g_X24_plain
  refine fr_bind (g_X25_isPart_fr) (fun r6 D6 => ?_)
  refine fr_ite (fun c9 => ?_) (fun c9 => ?_)
  exact fr_some
  refine fr_ite (fun c19 => ?_) (fun c19 => ?_)
  exact fr_some
  refine fr_ck (fun ha30 => ?_)
  refine fr_bind (g_X26_isPlain_fr) (fun r33 D33 => ?_)
  refine fr_ite (fun c36 => ?_) (fun c36 => ?_)
  exact fr_some
  exact fr_some
theorem g_X24_say_2_l2_fr  {k38 : ga_D → ga_S} (hk38 : ∀ (D : ga_D), ga_fr 4875 4930 D (k38 D)) : ∀ (n : Nat) (x1 x2 : Int) (D : ga_D), ga_fr 4875 4930 D (g_X24_say_2_l2 n x1 x2 D k38) := by
  intro n
  induction n with
  | zero => intro x1 x2 D; exact fr_none
  | succ n ih =>
    intro x1 x2 D
    show ga_fr 4875 4930 D (ga_bind (g_J20_length x1 D) (fun r4 D4 => ga_ck (ga_K x1 = (69, 0)) (if r4 ≤ x2 then (k38 D4) else (ga_let (ga_set D4 4875 7 (aw_w32 ((D4 4875 7) + 1))) (fun D22 => ga_bind (g_J20_charAt x1 x2 D22) (fun r27 D27 => ga_ck (0 ≤ D4 4875 7 ∧ D4 4875 7 < 8000 ∧ (-128) ≤ aw_i2b r27 ∧ aw_i2b r27 < 128) (ga_let (ga_set D27 4929 (D4 4875 7) (aw_i2b r27)) (fun D31 => ga_let (aw_w32 (x2 + 1)) (fun v32 => g_X24_say_2_l2 n x1 v32 D31 k38)))))))))
    refine fr_bind (g_J20_length_fr) (fun r4 D4 => ?_)
    refine fr_ck (fun hk4_0 => ?_)
    refine fr_ite (fun c7 => ?_) (fun c7 => ?_)
    exact hk38 _ 
    refine fr_upd (by decide) (fun D22 => ?_)
    refine fr_bind (g_J20_charAt_fr) (fun r27 D27 => ?_)
    refine fr_ck (fun ha31 => ?_)
    refine fr_upd (by decide) (fun D31 => ?_)
    refine fr_let (fun v32 => ?_)
    exact ih _ _ _ 
theorem g_X24_say_2_fr {x1 : Int} {D : ga_D} : ga_fr 4875 4930 D (g_X24_say_2 x1 D) := by
  unfold g_X24_say_2
  refine g_X24_say_2_l2_fr (fun D38 => ?_) _ _ _ _ 
  refine fr_upd (by decide) (fun D50 => ?_)
  refine fr_ck (fun ha55 => ?_)
  refine fr_upd (by decide) (fun D55 => ?_)
  exact fr_some
theorem g_X24_say_3_l2_fr  {k18 : Int → Int → ga_D → ga_S} (hk18 : ∀ (x1 x2 : Int) (D : ga_D), ga_fr 4875 4930 D (k18 x1 x2 D)) : ∀ (n : Nat) (x1 x2 : Int) (D : ga_D), ga_fr 4875 4930 D (g_X24_say_3_l2 n x1 x2 D k18) := by
  intro n
  induction n with
  | zero => intro x1 x2 D; exact fr_none
  | succ n ih =>
    intro x1 x2 D
    show ga_fr 4875 4930 D (ga_ck (x2 ≠ 0) (if aw_w32 (Int.tdiv x1 x2) ≤ 9 then (k18 x1 x2 D) else (ga_let (aw_w32 (x2 * 10)) (fun v14 => g_X24_say_3_l2 n x1 v14 D k18))))
    refine fr_ck (fun hz4 => ?_)
    refine fr_ite (fun c7 => ?_) (fun c7 => ?_)
    exact hk18 _ _ _ 
    refine fr_let (fun v14 => ?_)
    exact ih _ _ _ 
theorem g_X24_say_3_l18_fr  {k56 : ga_D → ga_S} (hk56 : ∀ (D : ga_D), ga_fr 4875 4930 D (k56 D)) : ∀ (n : Nat) (x1 x2 : Int) (D : ga_D), ga_fr 4875 4930 D (g_X24_say_3_l18 n x1 x2 D k56) := by
  intro n
  induction n with
  | zero => intro x1 x2 D; exact fr_none
  | succ n ih =>
    intro x1 x2 D
    show ga_fr 4875 4930 D (if x2 ≤ 0 then (k56 D) else (ga_let (ga_set D 4875 7 (aw_w32 ((D 4875 7) + 1))) (fun D34 => ga_ck (x2 ≠ 0) (ga_ck (0 ≤ D 4875 7 ∧ D 4875 7 < 8000 ∧ (-128) ≤ aw_i2b (aw_w32 (48 + (Int.tmod (aw_w32 (Int.tdiv x1 x2)) 10))) ∧ aw_i2b (aw_w32 (48 + (Int.tmod (aw_w32 (Int.tdiv x1 x2)) 10))) < 128) (ga_let (ga_set D34 4929 (D 4875 7) (aw_i2b (aw_w32 (48 + (Int.tmod (aw_w32 (Int.tdiv x1 x2)) 10))))) (fun D47 => ga_let (aw_w32 (Int.tdiv x2 10)) (fun v52 => g_X24_say_3_l18 n x1 v52 D47 k56)))))))
    refine fr_ite (fun c19 => ?_) (fun c19 => ?_)
    exact hk56 _ 
    refine fr_upd (by decide) (fun D34 => ?_)
    refine fr_ck (fun hz41 => ?_)
    refine fr_ck (fun ha47 => ?_)
    refine fr_upd (by decide) (fun D47 => ?_)
    refine fr_let (fun v52 => ?_)
    exact ih _ _ _ 
theorem g_X24_say_3_fr {x1 : Int} {D : ga_D} : ga_fr 4875 4930 D (g_X24_say_3 x1 D) := by
  unfold g_X24_say_3
  refine g_X24_say_3_l2_fr (fun x1 x2 D18 => ?_) _ _ _ _ 
  refine g_X24_say_3_l18_fr (fun D56 => ?_) _ _ _ _ 
  refine fr_upd (by decide) (fun D68 => ?_)
  refine fr_ck (fun ha73 => ?_)
  refine fr_upd (by decide) (fun D73 => ?_)
  exact fr_some
theorem g_X24_say_fr {x1 x2 x3 : Int} {D : ga_D} : ga_fr 4875 4930 D (g_X24_say x1 x2 x3 D) := by
  unfold g_X24_say
  refine fr_ck (fun hk2_0 => ?_)
  refine fr_bind (g_X24_say_2_fr) (fun r5 D5 => ?_)
  refine fr_bind (g_X24_say_3_fr) (fun r10 D10 => ?_)
  refine fr_bind (g_X24_say_3_fr) (fun r15 D15 => ?_)
  exact fr_some
theorem g_X24_tell_2_l2_fr  {k48 : Int → Int → ga_D → ga_S} (hk48 : ∀ (x1 x2 : Int) (D : ga_D), ga_fr 4875 4930 D (k48 x1 x2 D)) : ∀ (n : Nat) (x1 x2 x3 : Int) (D : ga_D), ga_fr 4875 4930 D (g_X24_tell_2_l2 n x1 x2 x3 D k48) := by
  intro n
  induction n with
  | zero => intro x1 x2 x3 D; exact fr_none
  | succ n ih =>
    intro x1 x2 x3 D
    show ga_fr 4875 4930 D (if D 4876 0 ≤ x3 then (k48 x1 x2 D) else (ga_ck (0 ≤ x3 ∧ x3 < 10) (if aw_and (aw_shr (D ((2 * x3 + 4881)) 2) x1) 1 ≠ 1 then (ga_let (aw_w32 (x3 + 1)) (fun v42 => g_X24_tell_2_l2 n x1 x2 v42 D k48)) else (ga_bind (g_X24_say 131 x1 x3 D) (fun r39 D39 => ga_let (aw_w32 (x3 + 1)) (fun v42 => g_X24_tell_2_l2 n x1 x2 v42 D39 k48))))))
    refine fr_ite (fun c10 => ?_) (fun c10 => ?_)
    exact hk48 _ _ _ 
    refine fr_ck (fun ha21 => ?_)
    refine fr_ite (fun c30 => ?_) (fun c30 => ?_)
    refine fr_let (fun v42 => ?_)
    exact ih _ _ _ _ 
    refine fr_bind (g_X24_say_fr) (fun r39 D39 => ?_)
    refine fr_let (fun v42 => ?_)
    exact ih _ _ _ _ 
theorem g_X24_tell_2_l59_fr  {k107 : Int → Int → Int → ga_D → ga_S} (hk107 : ∀ (x1 x2 x3 : Int) (D : ga_D), ga_fr 4875 4930 D (k107 x1 x2 x3 D)) : ∀ (n : Nat) (x1 x2 x3 x4 : Int) (D : ga_D), ga_fr 4875 4930 D (g_X24_tell_2_l59 n x1 x2 x3 x4 D k107) := by
  intro n
  induction n with
  | zero => intro x1 x2 x3 x4 D; exact fr_none
  | succ n ih =>
    intro x1 x2 x3 x4 D
    show ga_fr 4875 4930 D (if D 4876 0 ≤ x4 then (k107 x1 x2 x3 D) else (ga_ck (ga_K x2 = (24, 0)) (ga_ck (0 ≤ x3 ∧ x3 < 6) (if aw_and (aw_shr (D ((x2 + 1)) x3) x4) 1 ≠ 1 then (ga_let (aw_w32 (x4 + 1)) (fun v101 => g_X24_tell_2_l59 n x1 x2 x3 v101 D k107)) else (ga_bind (g_X24_say 132 x1 x3 D) (fun r92 D92 => ga_bind (g_X24_say_3 x4 D92) (fun r98 D98 => ga_let (aw_w32 (x4 + 1)) (fun v101 => g_X24_tell_2_l59 n x1 x2 x3 v101 D98 k107))))))))
    refine fr_ite (fun c68 => ?_) (fun c68 => ?_)
    exact hk107 _ _ _ _ 
    refine fr_ck (fun hk72_0 => ?_)
    refine fr_ck (fun ha76 => ?_)
    refine fr_ite (fun c83 => ?_) (fun c83 => ?_)
    refine fr_let (fun v101 => ?_)
    exact ih _ _ _ _ _ 
    refine fr_bind (g_X24_say_fr) (fun r92 D92 => ?_)
    refine fr_bind (g_X24_say_3_fr) (fun r98 D98 => ?_)
    refine fr_let (fun v101 => ?_)
    exact ih _ _ _ _ _ 
theorem g_X24_tell_2_l50_fr  {k113 : Int → Int → ga_D → ga_S} (hk113 : ∀ (x1 x2 : Int) (D : ga_D), ga_fr 4875 4930 D (k113 x1 x2 D)) : ∀ (n : Nat) (x1 x2 x3 : Int) (D : ga_D), ga_fr 4875 4930 D (g_X24_tell_2_l50 n x1 x2 x3 D k113) := by
  intro n
  induction n with
  | zero => intro x1 x2 x3 D; exact fr_none
  | succ n ih =>
    intro x1 x2 x3 D
    show ga_fr 4875 4930 D (if 6 ≤ x3 then (k113 x1 x2 D) else (g_X24_tell_2_l59 aw_fu x1 x2 x3 0 D (fun x1 x2 x3 D107 => ga_let (aw_w32 (x3 + 1)) (fun v107 => g_X24_tell_2_l50 n x1 x2 v107 D107 k113))))
    refine fr_ite (fun c53 => ?_) (fun c53 => ?_)
    exact hk113 _ _ _ 
    refine g_X24_tell_2_l59_fr (fun x1 x2 x3 D107 => ?_) _ _ _ _ _ _ 
    refine fr_let (fun v107 => ?_)
    exact ih _ _ _ _ 
theorem g_X24_tell_2_l115_fr  {k148 : Int → Int → ga_D → ga_S} (hk148 : ∀ (x1 x2 : Int) (D : ga_D), ga_fr 4875 4930 D (k148 x1 x2 D)) : ∀ (n : Nat) (x1 x2 x3 : Int) (D : ga_D), ga_fr 4875 4930 D (g_X24_tell_2_l115 n x1 x2 x3 D k148) := by
  intro n
  induction n with
  | zero => intro x1 x2 x3 D; exact fr_none
  | succ n ih =>
    intro x1 x2 x3 D
    show ga_fr 4875 4930 D (if 8 ≤ x3 then (k148 x1 x2 D) else (ga_ck (ga_K x2 = (24, 0)) (if aw_and (aw_shr (D x2 4) x3) 1 ≠ 1 then (ga_let (aw_w32 (x3 + 1)) (fun v142 => g_X24_tell_2_l115 n x1 x2 v142 D k148)) else (ga_bind (g_X24_say 134 x1 x3 D) (fun r139 D139 => ga_let (aw_w32 (x3 + 1)) (fun v142 => g_X24_tell_2_l115 n x1 x2 v142 D139 k148))))))
    refine fr_ite (fun c118 => ?_) (fun c118 => ?_)
    exact hk148 _ _ _ 
    refine fr_ck (fun hk122_0 => ?_)
    refine fr_ite (fun c130 => ?_) (fun c130 => ?_)
    refine fr_let (fun v142 => ?_)
    exact ih _ _ _ _ 
    refine fr_bind (g_X24_say_fr) (fun r139 D139 => ?_)
    refine fr_let (fun v142 => ?_)
    exact ih _ _ _ _ 
theorem g_X24_tell_2_j168_fr  (x1 x2 : Int) (D : ga_D) : ga_fr 4875 4930 D (g_X24_tell_2_j168 x1 x2 D) := by
  unfold g_X24_tell_2_j168
  refine fr_ck (fun hk169_0 => ?_)
  refine fr_ite (fun c172 => ?_) (fun c172 => ?_)
  exact fr_some
  refine fr_bind (g_X24_say_fr) (fun r184 D184 => ?_)
  exact fr_some
theorem g_X24_tell_2_fr {x1 x2 : Int} {D : ga_D} : ga_fr 4875 4930 D (g_X24_tell_2 x1 x2 D) := by
  unfold g_X24_tell_2
  refine g_X24_tell_2_l2_fr (fun x1 x2 D48 => ?_) _ _ _ _ _ 
  refine g_X24_tell_2_l50_fr (fun x1 x2 D113 => ?_) _ _ _ _ _ 
  refine g_X24_tell_2_l115_fr (fun x1 x2 D148 => ?_) _ _ _ _ _ 
  refine fr_ck (fun hk149_0 => ?_)
  refine fr_ite (fun c153 => ?_) (fun c153 => ?_)
  refine g_X24_tell_2_j168_fr _ _ _ 
  refine fr_bind (g_X24_say_fr) (fun r165 D165 => ?_)
  refine g_X24_tell_2_j168_fr _ _ _ 
theorem g_X24_tell_l7_fr  {k55 : ga_D → ga_S} (hk55 : ∀ (D : ga_D), ga_fr 4875 4930 D (k55 D)) : ∀ (n : Nat) (x1 : Int) (D : ga_D), ga_fr 4875 4930 D (g_X24_tell_l7 n x1 D k55) := by
  intro n
  induction n with
  | zero => intro x1 D; exact fr_none
  | succ n ih =>
    intro x1 D
    show ga_fr 4875 4930 D (if D 4876 0 ≤ x1 then (k55 D) else (ga_ck (0 ≤ x1 ∧ x1 < 10) (ga_ck (0 ≤ x1 ∧ x1 < 10) (ga_bind (g_X24_say 130 (D ((2 * x1 + 4881)) 0) (D ((2 * x1 + 4881)) 1) D) (fun r46 D46 => ga_let (aw_w32 (x1 + 1)) (fun v49 => g_X24_tell_l7 n v49 D46 k55))))))
    refine fr_ite (fun c15 => ?_) (fun c15 => ?_)
    exact hk55 _ 
    refine fr_ck (fun ha30 => ?_)
    refine fr_ck (fun ha42 => ?_)
    refine fr_bind (g_X24_say_fr) (fun r46 D46 => ?_)
    refine fr_let (fun v49 => ?_)
    exact ih _ _ 
theorem g_X24_tell_l57_fr  {k88 : ga_D → ga_S} (hk88 : ∀ (D : ga_D), ga_fr 4875 4930 D (k88 D)) : ∀ (n : Nat) (x1 : Int) (D : ga_D), ga_fr 4875 4930 D (g_X24_tell_l57 n x1 D k88) := by
  intro n
  induction n with
  | zero => intro x1 D; exact fr_none
  | succ n ih =>
    intro x1 D
    show ga_fr 4875 4930 D (if D 4876 0 ≤ x1 then (k88 D) else (ga_ck (0 ≤ x1 ∧ x1 < 10) (ga_bind (g_X24_tell_2 x1 ((2 * x1 + 4881)) D) (fun r79 D79 => ga_let (aw_w32 (x1 + 1)) (fun v82 => g_X24_tell_l57 n v82 D79 k88)))))
    refine fr_ite (fun c65 => ?_) (fun c65 => ?_)
    exact hk88 _ 
    refine fr_ck (fun ha78 => ?_)
    refine fr_bind (g_X24_tell_2_fr) (fun r79 D79 => ?_)
    refine fr_let (fun v82 => ?_)
    exact ih _ _ 
theorem g_X24_tell_l90_fr  {k145 : ga_D → ga_S} (hk145 : ∀ (D : ga_D), ga_fr 4875 4930 D (k145 D)) : ∀ (n : Nat) (x1 : Int) (D : ga_D), ga_fr 4875 4930 D (g_X24_tell_l90 n x1 D k145) := by
  intro n
  induction n with
  | zero => intro x1 D; exact fr_none
  | succ n ih =>
    intro x1 D
    show ga_fr 4875 4930 D (if D 4876 2 ≤ x1 then (k145 D) else (ga_ck (0 ≤ x1 ∧ x1 < 20) (ga_ck (0 ≤ x1 ∧ x1 < 20) (ga_bind (g_X24_say 133 (D 4878 x1) (D 4879 x1) D) (fun r123 D123 => ga_ck (0 ≤ x1 ∧ x1 < 20) (ga_bind (g_X24_say_3 (D123 4880 x1) D123) (fun r136 D136 => ga_let (aw_w32 (x1 + 1)) (fun v139 => g_X24_tell_l90 n v139 D136 k145))))))))
    refine fr_ite (fun c98 => ?_) (fun c98 => ?_)
    exact hk145 _ 
    refine fr_ck (fun ha113 => ?_)
    refine fr_ck (fun ha122 => ?_)
    refine fr_bind (g_X24_say_fr) (fun r123 D123 => ?_)
    refine fr_ck (fun ha135 => ?_)
    refine fr_bind (g_X24_say_3_fr) (fun r136 D136 => ?_)
    refine fr_let (fun v139 => ?_)
    exact ih _ _ 
theorem g_X24_tell_fr {D : ga_D} : ga_fr 4875 4930 D (g_X24_tell D) := by
  unfold g_X24_tell
  refine fr_upd (by decide) (fun D2 => ?_)
  refine g_X24_tell_l7_fr (fun D55 => ?_) _ _ _ 
  refine g_X24_tell_l57_fr (fun D88 => ?_) _ _ _ 
  refine g_X24_tell_l90_fr (fun D145 => ?_) _ _ _ 
  exact fr_some
theorem g_X24_write_fr {x1 : Int} {D : ga_D} : ga_fr 4875 4930 D (g_X24_write x1 D) := by
  unfold g_X24_write
  refine fr_bind (g_X24_tell_fr) (fun r1 D1 => ?_)
  refine fr_ite (fun c5 => ?_) (fun c5 => ?_)
  exact fr_some
  refine fr_ite (fun c13 => ?_) (fun c13 => ?_)
  exact fr_some
  refine fr_ck (fun ha21 => ?_)
  exact fr_some
theorem g_X24_loose_l7_fr  {k34 : Int → ga_D → ga_S} (hk34 : ∀ (x1 : Int) (D : ga_D), ga_fr 4875 4930 D (k34 x1 D)) : ∀ (n : Nat) (x1 x2 : Int) (D : ga_D), ga_fr 4875 4930 D (g_X24_loose_l7 n x1 x2 D k34) := by
  intro n
  induction n with
  | zero => intro x1 x2 D; exact fr_none
  | succ n ih =>
    intro x1 x2 D
    show ga_fr 4875 4930 D (if x2 = 0 then (k34 x1 D) else (ga_bind (g_J25_numberOfTrailingZeros x2 D) (fun r17 D17 => ga_bind (g_X25_hanging 4876 r17 0 D17) (fun r21 D21 => ga_let (aw_and x2 (aw_xor r21 (-1))) (fun v27 => ga_let (aw_w32 (x1 + 1)) (fun v28 => g_X24_loose_l7 n v28 v27 D21 k34))))))
    refine fr_ite (fun c8 => ?_) (fun c8 => ?_)
    exact hk34 _ _ 
    refine fr_bind (g_J25_numberOfTrailingZeros_fr) (fun r17 D17 => ?_)
    refine fr_bind (g_X25_hanging_fr) (fun r21 D21 => ?_)
    refine fr_let (fun v27 => ?_)
    refine fr_let (fun v28 => ?_)
    exact ih _ _ _ 
theorem g_X24_loose_fr {D : ga_D} : ga_fr 4875 4930 D (g_X24_loose D) := by
  unfold g_X24_loose
  refine fr_bind (g_X24_all_fr) (fun r3 D3 => ?_)
  refine g_X24_loose_l7_fr (fun x1 D34 => ?_) _ _ _ _ 
  exact fr_some
