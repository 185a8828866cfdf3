theorem g_X48_thrown_fr {D : ga_D} : ga_fr 5144 5342 D (g_X48_thrown D) := by
  unfold g_X48_thrown
  exact fr_some
theorem g_X48_take_l3_fr  {k36 : ga_D → ga_S} (hk36 : ∀ (D : ga_D), ga_fr 5144 5342 D (k36 D)) : ∀ (n : Nat) (x1 x2 : Int) (D : ga_D), ga_fr 5144 5342 D (g_X48_take_l3 n x1 x2 D k36) := by
  intro n
  induction n with
  | zero => intro x1 x2 D; exact fr_none
  | succ n ih =>
    intro x1 x2 D
    show ga_fr 5144 5342 D (if x2 < 0 then (k36 D) else (ga_ck (0 ≤ D 5144 10 ∧ D 5144 10 < 8020 ∧ (-128) ≤ aw_i2b (aw_shr x1 x2) ∧ aw_i2b (aw_shr x1 x2) < 128) (ga_let (ga_set D 5328 (D 5144 10) (aw_i2b (aw_shr x1 x2))) (fun D19 => ga_let (ga_set D19 5144 10 (aw_w32 ((D19 5144 10) + 1))) (fun D27 => ga_let (aw_w32 (x2 + (-8))) (fun v30 => g_X48_take_l3 n x1 v30 D27 k36))))))
    refine fr_ite (fun c4 => ?_) (fun c4 => ?_)
    exact hk36 _ 
    refine fr_ck (fun ha19 => ?_)
    refine fr_upd (by decide) (fun D19 => ?_)
    refine fr_upd (by decide) (fun D27 => ?_)
    refine fr_let (fun v30 => ?_)
    exact ih _ _ _ 
theorem g_X48_take_fr {x1 : Int} {D : ga_D} : ga_fr 5144 5342 D (g_X48_take x1 D) := by
  unfold g_X48_take
  refine g_X48_take_l3_fr (fun D36 => ?_) _ _ _ _ 
  exact fr_some
theorem g_X48_feed_j19_fr  (x1 x2 x3 x4 x5 s0 : Int) (D : ga_D) : ga_fr 5144 5342 D (g_X48_feed_j19 x1 x2 x3 x4 x5 s0 D) := by
  unfold g_X48_feed_j19
  refine fr_upd (by decide) (fun D19 => ?_)
  refine fr_ite (fun c26 => ?_) (fun c26 => ?_)
  exact fr_some
  refine fr_bind (g_X48_take_fr) (fun r31 D31 => ?_)
  refine fr_bind (g_X48_take_fr) (fun r36 D36 => ?_)
  refine fr_bind (g_X48_take_fr) (fun r41 D41 => ?_)
  refine fr_bind (g_X48_take_fr) (fun r47 D47 => ?_)
  refine fr_bind (g_X48_take_fr) (fun r53 D53 => ?_)
  exact fr_some
theorem g_X48_feed_fr {x1 x2 x3 x4 x5 : Int} {D : ga_D} : ga_fr 5144 5342 D (g_X48_feed x1 x2 x3 x4 x5 D) := by
  unfold g_X48_feed
  refine fr_ite (fun c11 => ?_) (fun c11 => ?_)
  refine g_X48_feed_j19_fr _ _ _ _ _ _ _ 
  refine g_X48_feed_j19_fr _ _ _ _ _ _ _ 
theorem g_X48_end_j18_fr  (x1 s0 : Int) (D : ga_D) : ga_fr 5144 5342 D (g_X48_end_j18 x1 s0 D) := by
  unfold g_X48_end_j18
  refine fr_upd (by decide) (fun D18 => ?_)
  refine fr_ite (fun c25 => ?_) (fun c25 => ?_)
  refine fr_let (fun v34 => ?_)
  refine fr_upd (by decide) (fun D37 => ?_)
  exact fr_some
  exact fr_some
theorem g_X48_end_j13_fr  (x1 : Int) (D : ga_D) : ga_fr 5144 5342 D (g_X48_end_j13 x1 D) := by
  unfold g_X48_end_j13
  refine g_X48_end_j18_fr _ _ _ 
theorem g_X48_end_fr {x1 : Int} {D : ga_D} : ga_fr 5144 5342 D (g_X48_end x1 D) := by
  unfold g_X48_end
  refine fr_ite (fun c2 => ?_) (fun c2 => ?_)
  refine g_X48_end_j13_fr _ _ 
  refine fr_ite (fun c10 => ?_) (fun c10 => ?_)
  refine g_X48_end_j18_fr _ _ _ 
  refine g_X48_end_j13_fr _ _ 
theorem g_X48_split_l20_fr  {k44 : Int → Int → Int → ga_D → ga_S} (hk44 : ∀ (x2 x3 x4 : Int) (D : ga_D), ga_fr 5144 5342 D (k44 x2 x3 x4 D)) : ∀ (n : Nat) (x2 x3 x4 : Int) (D : ga_D), ga_fr 5144 5342 D (g_X48_split_l20 n x2 x3 x4 D k44) := by
  intro n
  induction n with
  | zero => intro x2 x3 x4 D; exact fr_none
  | succ n ih =>
    intro x2 x3 x4 D
    show ga_fr 5144 5342 D (if x2 ≤ x4 then (k44 x2 x3 x4 D) else (ga_ck (0 ≤ x4 ∧ x4 < 8020) (if D 5328 x4 = 32 then (k44 x2 x3 x4 D) else (ga_let (aw_w32 (x4 + 1)) (fun v38 => g_X48_split_l20 n x2 x3 v38 D k44)))))
    refine fr_ite (fun c23 => ?_) (fun c23 => ?_)
    exact hk44 _ _ _ _ 
    refine fr_ck (fun ha32 => ?_)
    refine fr_ite (fun c35 => ?_) (fun c35 => ?_)
    exact hk44 _ _ _ _ 
    refine fr_let (fun v38 => ?_)
    exact ih _ _ _ _ 
theorem g_X48_split_j44_fr  {k12 : Int → Int → ga_D → ga_S} (hk12 : ∀ (x2 x3 : Int) (D : ga_D), ga_fr 5144 5342 D (k12 x2 x3 D)) (x2 x3 x4 : Int) (D : ga_D) : ga_fr 5144 5342 D (g_X48_split_j44 x2 x3 x4 D k12) := by
  unfold g_X48_split_j44
  refine fr_ite (fun c47 => ?_) (fun c47 => ?_)
  refine fr_let (fun v85 => ?_)
  exact hk12 _ _ _ 
  refine fr_ck (fun ha59 => ?_)
  refine fr_upd (by decide) (fun D59 => ?_)
  refine fr_ck (fun ha70 => ?_)
  refine fr_upd (by decide) (fun D70 => ?_)
  refine fr_upd (by decide) (fun D78 => ?_)
  refine fr_let (fun v85 => ?_)
  exact hk12 _ _ _ 
theorem g_X48_split_l12_fr  {k89 : ga_D → ga_S} (hk89 : ∀ (D : ga_D), ga_fr 5144 5342 D (k89 D)) : ∀ (n : Nat) (x2 x3 : Int) (D : ga_D), ga_fr 5144 5342 D (g_X48_split_l12 n x2 x3 D k89) := by
  intro n
  induction n with
  | zero => intro x2 x3 D; exact fr_none
  | succ n ih =>
    intro x2 x3 D
    show ga_fr 5144 5342 D (if x2 ≤ x3 then (k89 D) else (g_X48_split_l20 aw_fu x2 x3 x3 D (fun x2 x3 x4 D44 => g_X48_split_j44 x2 x3 x4 D44 (fun x2 x3 D12 => g_X48_split_l12 n x2 x3 D12 k89))))
    refine fr_ite (fun c14 => ?_) (fun c14 => ?_)
    exact hk89 _ 
    refine g_X48_split_l20_fr (fun x2 x3 x4 D44 => ?_) _ _ _ _ _ 
    refine g_X48_split_j44_fr (fun x2 x3 D12 => ?_) _ _ _ _ 
    exact ih _ _ _ 
theorem g_X48_split_fr {x1 x2 : Int} {D : ga_D} : ga_fr 5144 5342 D (g_X48_split x1 x2 D) := by
  unfold g_X48_split
  refine fr_upd (by decide) (fun D2 => ?_)
  refine fr_upd (by decide) (fun D7 => ?_)
  refine g_X48_split_l12_fr (fun D89 => ?_) _ _ _ _ 
  exact fr_some
theorem g_X48_is_l40_fr  {k87 : Int → ga_D → ga_S} (hk87 : ∀ (x4 : Int) (D : ga_D), ga_fr 5144 5342 D (k87 x4 D)) : ∀ (n : Nat) (x1 x2 x3 x4 x5 : Int) (D : ga_D), ga_fr 5144 5342 D (g_X48_is_l40 n x1 x2 x3 x4 x5 D k87) := by
  intro n
  induction n with
  | zero => intro x1 x2 x3 x4 x5 D; exact fr_none
  | succ n ih =>
    intro x1 x2 x3 x4 x5 D
    show ga_fr 5144 5342 D (if x3 ≤ x5 then (k87 x4 D) else (if x4 = 0 then (k87 x4 D) else (ga_ck (0 ≤ x1 ∧ x1 < 4001) (ga_ck (0 ≤ aw_w32 ((D 5331 x1) + x5) ∧ aw_w32 ((D 5331 x1) + x5) < 8020) (ga_bind (g_J20_charAt x2 x5 D) (fun r68 D68 => ga_ck (ga_K x2 = (69, 0)) (if D 5328 (aw_w32 ((D 5331 x1) + x5)) ≠ r68 then (ga_let (aw_w32 (x5 + 1)) (fun v81 => g_X48_is_l40 n x1 x2 x3 0 v81 D68 k87)) else (ga_let (aw_w32 (x5 + 1)) (fun v81 => g_X48_is_l40 n x1 x2 x3 1 v81 D68 k87)))))))))
    refine fr_ite (fun c43 => ?_) (fun c43 => ?_)
    exact hk87 _ _ 
    refine fr_ite (fun c48 => ?_) (fun c48 => ?_)
    exact hk87 _ _ 
    refine fr_ck (fun ha60 => ?_)
    refine fr_ck (fun ha64 => ?_)
    refine fr_bind (g_J20_charAt_fr) (fun r68 D68 => ?_)
    refine fr_ck (fun hk68_0 => ?_)
    refine fr_ite (fun c71 => ?_) (fun c71 => ?_)
    refine fr_let (fun v81 => ?_)
    exact ih _ _ _ _ _ _ 
    refine fr_let (fun v81 => ?_)
    exact ih _ _ _ _ _ _ 
theorem g_X48_is_fr {x1 x2 : Int} {D : ga_D} : ga_fr 5144 5342 D (g_X48_is x1 x2 D) := by
  unfold g_X48_is
  refine fr_bind (g_J20_length_fr) (fun r1 D1 => ?_)
  refine fr_ck (fun hk1_0 => ?_)
  refine fr_ite (fun c10 => ?_) (fun c10 => ?_)
  refine g_X48_is_l40_fr (fun x4 D87 => ?_) _ _ _ _ _ _ _ 
  refine fr_ck (fun hr89 => ?_)
  exact fr_some
  refine fr_ck (fun ha18 => ?_)
  refine fr_ck (fun ha24 => ?_)
  refine fr_ite (fun c27 => ?_) (fun c27 => ?_)
  refine g_X48_is_l40_fr (fun x4 D87 => ?_) _ _ _ _ _ _ _ 
  refine fr_ck (fun hr89 => ?_)
  exact fr_some
  refine g_X48_is_l40_fr (fun x4 D87 => ?_) _ _ _ _ _ _ _ 
  refine fr_ck (fun hr89 => ?_)
  exact fr_some
theorem g_X48_numberOf_j148_fr  {k100 : Int → Int → Int → Int → Int → ga_D → ga_S} (hk100 : ∀ (x1 x3 x4 x7 x9 : Int) (D : ga_D), ga_fr 5144 5342 D (k100 x1 x3 x4 x7 x9 D)) (x1 x3 x4 x7 x9 s0 : Int) (D : ga_D) : ga_fr 5144 5342 D (g_X48_numberOf_j148 x1 x3 x4 x7 x9 s0 D k100) := by
  unfold g_X48_numberOf_j148
  refine fr_ck (fun hp148 => ?_)
  refine fr_upd (by decide) (fun D148 => ?_)
  refine fr_ck (fun ha163 => ?_)
  refine fr_let (fun v170 => ?_)
  refine fr_let (fun v172 => ?_)
  exact hk100 _ _ _ _ _ _ 
theorem g_X48_numberOf_j147_fr  {k100 : Int → Int → Int → Int → Int → ga_D → ga_S} (hk100 : ∀ (x1 x3 x4 x7 x9 : Int) (D : ga_D), ga_fr 5144 5342 D (k100 x1 x3 x4 x7 x9 D)) (x1 x3 x4 x7 x9 : Int) (D : ga_D) : ga_fr 5144 5342 D (g_X48_numberOf_j147 x1 x3 x4 x7 x9 D k100) := by
  unfold g_X48_numberOf_j147
  refine g_X48_numberOf_j148_fr (fun x1 x3 x4 x7 x9 D100 => ?_) _ _ _ _ _ _ _ 
  exact hk100 _ _ _ _ _ _ 
theorem g_X48_numberOf_l100_fr  {k178 : Int → Int → Int → ga_D → ga_S} (hk178 : ∀ (x3 x4 x7 : Int) (D : ga_D), ga_fr 5144 5342 D (k178 x3 x4 x7 D)) : ∀ (n : Nat) (x1 x3 x4 x7 x9 : Int) (D : ga_D), ga_fr 5144 5342 D (g_X48_numberOf_l100 n x1 x3 x4 x7 x9 D k178) := by
  intro n
  induction n with
  | zero => intro x1 x3 x4 x7 x9 D; exact fr_none
  | succ n ih =>
    intro x1 x3 x4 x7 x9 D
    show ga_fr 5144 5342 D (ga_ck (0 ≤ x1 ∧ x1 < 4001) (if D 5332 x1 ≤ x9 then (k178 x3 x4 x7 D) else (if D 5144 33 = 0 then (k178 x3 x4 x7 D) else (ga_ck (0 ≤ x9 ∧ x9 < 8020) (if D 5328 x9 < 48 then (g_X48_numberOf_j147 x1 x3 x4 x7 x9 D (fun x1 x3 x4 x7 x9 D100 => g_X48_numberOf_l100 n x1 x3 x4 x7 x9 D100 k178)) else (ga_ck (0 ≤ x9 ∧ x9 < 8020) (if 57 < D 5328 x9 then (g_X48_numberOf_j147 x1 x3 x4 x7 x9 D (fun x1 x3 x4 x7 x9 D100 => g_X48_numberOf_l100 n x1 x3 x4 x7 x9 D100 k178)) else (g_X48_numberOf_j148 x1 x3 x4 x7 x9 1 D (fun x1 x3 x4 x7 x9 D100 => g_X48_numberOf_l100 n x1 x3 x4 x7 x9 D100 k178)))))))))
    refine fr_ck (fun ha107 => ?_)
    refine fr_ite (fun c108 => ?_) (fun c108 => ?_)
    exact hk178 _ _ _ _ 
    refine fr_ite (fun c115 => ?_) (fun c115 => ?_)
    exact hk178 _ _ _ _ 
    refine fr_ck (fun ha125 => ?_)
    refine fr_ite (fun c128 => ?_) (fun c128 => ?_)
    refine g_X48_numberOf_j147_fr (fun x1 x3 x4 x7 x9 D100 => ?_) _ _ _ _ _ _ 
    exact ih _ _ _ _ _ _ 
    refine fr_ck (fun ha137 => ?_)
    refine fr_ite (fun c140 => ?_) (fun c140 => ?_)
    refine g_X48_numberOf_j147_fr (fun x1 x3 x4 x7 x9 D100 => ?_) _ _ _ _ _ _ 
    exact ih _ _ _ _ _ _ 
    refine g_X48_numberOf_j148_fr (fun x1 x3 x4 x7 x9 D100 => ?_) _ _ _ _ _ _ _ 
    exact ih _ _ _ _ _ _ 
theorem g_X48_numberOf_j230_fr  (x3 x7 : Int) (D : ga_D) : ga_fr 5144 5342 D (g_X48_numberOf_j230 x3 x7 D) := by
  unfold g_X48_numberOf_j230
  refine fr_ite (fun c231 => ?_) (fun c231 => ?_)
  exact fr_some
  exact fr_some
theorem g_X48_numberOf_j207_fr  (x7 s0 : Int) (D : ga_D) : ga_fr 5144 5342 D (g_X48_numberOf_j207 x7 s0 D) := by
  unfold g_X48_numberOf_j207
  refine fr_ck (fun hp207 => ?_)
  refine fr_upd (by decide) (fun D207 => ?_)
  refine fr_ite (fun c214 => ?_) (fun c214 => ?_)
  exact fr_some
  refine fr_ck (fun ha224 => ?_)
  exact fr_some
theorem g_X48_numberOf_j178_fr  (x3 x4 x7 : Int) (D : ga_D) : ga_fr 5144 5342 D (g_X48_numberOf_j178 x3 x4 x7 D) := by
  unfold g_X48_numberOf_j178
  refine fr_ite (fun c180 => ?_) (fun c180 => ?_)
  refine g_X48_numberOf_j230_fr _ _ _ 
  refine fr_ite (fun c187 => ?_) (fun c187 => ?_)
  refine g_X48_numberOf_j230_fr _ _ _ 
  refine fr_ite (fun c199 => ?_) (fun c199 => ?_)
  refine g_X48_numberOf_j207_fr _ _ _ 
  refine g_X48_numberOf_j207_fr _ _ _ 
theorem g_X48_numberOf_j58_fr  (x1 x3 x4 s0 : Int) (D : ga_D) : ga_fr 5144 5342 D (g_X48_numberOf_j58 x1 x3 x4 s0 D) := by
  unfold g_X48_numberOf_j58
  refine fr_ck (fun ha65 => ?_)
  refine fr_let (fun v69 => ?_)
  refine fr_ite (fun c75 => ?_) (fun c75 => ?_)
  refine fr_upd (by decide) (fun D90 => ?_)
  refine g_X48_numberOf_l100_fr (fun x3 x4 x7 D178 => ?_) _ _ _ _ _ _ _ 
  refine g_X48_numberOf_j178_fr _ _ _ _ 
  refine fr_ite (fun c82 => ?_) (fun c82 => ?_)
  refine fr_upd (by decide) (fun D90 => ?_)
  refine g_X48_numberOf_l100_fr (fun x3 x4 x7 D178 => ?_) _ _ _ _ _ _ _ 
  refine g_X48_numberOf_j178_fr _ _ _ _ 
  refine fr_upd (by decide) (fun D90 => ?_)
  refine g_X48_numberOf_l100_fr (fun x3 x4 x7 D178 => ?_) _ _ _ _ _ _ _ 
  refine g_X48_numberOf_j178_fr _ _ _ _ 
theorem g_X48_numberOf_j51_fr  (x1 x2 x3 x4 : Int) (D : ga_D) : ga_fr 5144 5342 D (g_X48_numberOf_j51 x1 x2 x3 x4 D) := by
  unfold g_X48_numberOf_j51
  refine g_X48_numberOf_j58_fr _ _ _ _ _ 
theorem g_X48_numberOf_j40_fr  (x1 x2 x3 s0 : Int) (D : ga_D) : ga_fr 5144 5342 D (g_X48_numberOf_j40 x1 x2 x3 s0 D) := by
  unfold g_X48_numberOf_j40
  refine fr_ite (fun c43 => ?_) (fun c43 => ?_)
  refine g_X48_numberOf_j51_fr _ _ _ _ _ 
  refine fr_ite (fun c48 => ?_) (fun c48 => ?_)
  refine g_X48_numberOf_j58_fr _ _ _ _ _ 
  refine g_X48_numberOf_j51_fr _ _ _ _ _ 
theorem g_X48_numberOf_j23_fr  (x1 x2 s0 : Int) (D : ga_D) : ga_fr 5144 5342 D (g_X48_numberOf_j23 x1 x2 s0 D) := by
  unfold g_X48_numberOf_j23
  refine fr_ck (fun ha29 => ?_)
  refine fr_ite (fun c32 => ?_) (fun c32 => ?_)
  refine g_X48_numberOf_j40_fr _ _ _ _ _ 
  refine g_X48_numberOf_j40_fr _ _ _ _ _ 
theorem g_X48_numberOf_fr {x1 : Int} {D : ga_D} : ga_fr 5144 5342 D (g_X48_numberOf x1 D) := by
  unfold g_X48_numberOf
  refine fr_ck (fun ha5 => ?_)
  refine fr_let (fun v6 => ?_)
  refine fr_ck (fun ha12 => ?_)
  refine fr_ite (fun c15 => ?_) (fun c15 => ?_)
  refine g_X48_numberOf_j23_fr _ _ _ _ 
  refine g_X48_numberOf_j23_fr _ _ _ _ 
theorem g_X48_isCall_j154_fr  {k30 : Int → Int → Int → ga_D → ga_S} (hk30 : ∀ (x2 x3 x4 : Int) (D : ga_D), ga_fr 5144 5342 D (k30 x2 x3 x4 D)) (x2 x3 x4 s0 : Int) (D : ga_D) : ga_fr 5144 5342 D (g_X48_isCall_j154 x2 x3 x4 s0 D k30) := by
  unfold g_X48_isCall_j154
  refine fr_ite (fun c161 => ?_) (fun c161 => ?_)
  refine fr_upd (by decide) (fun D177 => ?_)
  refine fr_let (fun v180 => ?_)
  exact hk30 _ _ _ _ 
  refine fr_ite (fun c166 => ?_) (fun c166 => ?_)
  refine fr_upd (by decide) (fun D177 => ?_)
  refine fr_let (fun v180 => ?_)
  exact hk30 _ _ _ _ 
  refine fr_upd (by decide) (fun D177 => ?_)
  refine fr_let (fun v180 => ?_)
  exact hk30 _ _ _ _ 
theorem g_X48_isCall_j149_fr  {k30 : Int → Int → Int → ga_D → ga_S} (hk30 : ∀ (x2 x3 x4 : Int) (D : ga_D), ga_fr 5144 5342 D (k30 x2 x3 x4 D)) (x2 x3 x4 : Int) (D : ga_D) : ga_fr 5144 5342 D (g_X48_isCall_j149 x2 x3 x4 D k30) := by
  unfold g_X48_isCall_j149
  refine g_X48_isCall_j154_fr (fun x2 x3 x4 D30 => ?_) _ _ _ _ _ 
  exact hk30 _ _ _ _ 
theorem g_X48_isCall_j153_fr  {k30 : Int → Int → Int → ga_D → ga_S} (hk30 : ∀ (x2 x3 x4 : Int) (D : ga_D), ga_fr 5144 5342 D (k30 x2 x3 x4 D)) (x2 x3 x4 : Int) (D : ga_D) : ga_fr 5144 5342 D (g_X48_isCall_j153 x2 x3 x4 D k30) := by
  unfold g_X48_isCall_j153
  refine g_X48_isCall_j154_fr (fun x2 x3 x4 D30 => ?_) _ _ _ _ _ 
  exact hk30 _ _ _ _ 
theorem g_X48_isCall_l30_fr  {k186 : Int → ga_D → ga_S} (hk186 : ∀ (x3 : Int) (D : ga_D), ga_fr 5144 5342 D (k186 x3 D)) : ∀ (n : Nat) (x2 x3 x4 : Int) (D : ga_D), ga_fr 5144 5342 D (g_X48_isCall_l30 n x2 x3 x4 D k186) := by
  intro n
  induction n with
  | zero => intro x2 x3 x4 D; exact fr_none
  | succ n ih =>
    intro x2 x3 x4 D
    show ga_fr 5144 5342 D (if x3 ≤ x4 then (k186 x3 D) else (if 0 ≤ D 5144 21 then (k186 x3 D) else (if aw_w32 (x4 + 2) < D 5144 19 then (ga_bind (g_X48_numberOf (aw_w32 (x4 + 2)) D) (fun r76 D76 => ga_ck (0 ≤ x4 ∧ x4 < 8) (ga_let (ga_set D76 5333 x4 r76) (fun D79 => ga_bind (g_J20_charAt x2 x4 D79) (fun r83 D83 => ga_ck (ga_K x2 = (69, 0)) (if r83 = 108 then (g_X48_isCall_j149 x2 x3 x4 D83 (fun x2 x3 x4 D30 => g_X48_isCall_l30 n x2 x3 x4 D30 k186)) else (if r83 ≠ 98 then (ga_ck (0 ≤ x4 ∧ x4 < 8) (ga_ck (0 ≤ x4 ∧ x4 < 8) (if D83 5333 x4 ≠ aw_w32 (D83 5333 x4) then (g_X48_isCall_j153 x2 x3 x4 D83 (fun x2 x3 x4 D30 => g_X48_isCall_l30 n x2 x3 x4 D30 k186)) else (g_X48_isCall_j149 x2 x3 x4 D83 (fun x2 x3 x4 D30 => g_X48_isCall_l30 n x2 x3 x4 D30 k186))))) else (ga_ck (0 ≤ x4 ∧ x4 < 8) (if D83 5333 x4 = 0 then (g_X48_isCall_j149 x2 x3 x4 D83 (fun x2 x3 x4 D30 => g_X48_isCall_l30 n x2 x3 x4 D30 k186)) else (ga_ck (0 ≤ x4 ∧ x4 < 8) (if D83 5333 x4 ≠ 1 then (g_X48_isCall_j153 x2 x3 x4 D83 (fun x2 x3 x4 D30 => g_X48_isCall_l30 n x2 x3 x4 D30 k186)) else (g_X48_isCall_j149 x2 x3 x4 D83 (fun x2 x3 x4 D30 => g_X48_isCall_l30 n x2 x3 x4 D30 k186))))))))))))) else (ga_let (ga_set D 5144 21 (D 5144 19)) (fun D59 => ga_let (aw_w32 (x4 + 1)) (fun v180 => g_X48_isCall_l30 n x2 x3 v180 D59 k186))))))
    refine fr_ite (fun c33 => ?_) (fun c33 => ?_)
    exact hk186 _ _ 
    refine fr_ite (fun c40 => ?_) (fun c40 => ?_)
    exact hk186 _ _ 
    refine fr_ite (fun c51 => ?_) (fun c51 => ?_)
    refine fr_bind (g_X48_numberOf_fr) (fun r76 D76 => ?_)
    refine fr_ck (fun ha79 => ?_)
    refine fr_upd (by decide) (fun D79 => ?_)
    refine fr_bind (g_J20_charAt_fr) (fun r83 D83 => ?_)
    refine fr_ck (fun hk83_0 => ?_)
    refine fr_ite (fun c92 => ?_) (fun c92 => ?_)
    refine g_X48_isCall_j149_fr (fun x2 x3 x4 D30 => ?_) _ _ _ _ 
    exact ih _ _ _ _ 
    refine fr_ite (fun c99 => ?_) (fun c99 => ?_)
    refine fr_ck (fun ha135 => ?_)
    refine fr_ck (fun ha142 => ?_)
    refine fr_ite (fun c146 => ?_) (fun c146 => ?_)
    refine g_X48_isCall_j153_fr (fun x2 x3 x4 D30 => ?_) _ _ _ _ 
    exact ih _ _ _ _ 
    refine g_X48_isCall_j149_fr (fun x2 x3 x4 D30 => ?_) _ _ _ _ 
    exact ih _ _ _ _ 
    refine fr_ck (fun ha108 => ?_)
    refine fr_ite (fun c111 => ?_) (fun c111 => ?_)
    refine g_X48_isCall_j149_fr (fun x2 x3 x4 D30 => ?_) _ _ _ _ 
    exact ih _ _ _ _ 
    refine fr_ck (fun ha120 => ?_)
    refine fr_ite (fun c123 => ?_) (fun c123 => ?_)
    refine g_X48_isCall_j153_fr (fun x2 x3 x4 D30 => ?_) _ _ _ _ 
    exact ih _ _ _ _ 
    refine g_X48_isCall_j149_fr (fun x2 x3 x4 D30 => ?_) _ _ _ _ 
    exact ih _ _ _ _ 
    refine fr_upd (by decide) (fun D59 => ?_)
    refine fr_let (fun v180 => ?_)
    exact ih _ _ _ _ 
theorem g_X48_isCall_j186_fr  (x3 : Int) (D : ga_D) : ga_fr 5144 5342 D (g_X48_isCall_j186 x3 D) := by
  unfold g_X48_isCall_j186
  refine fr_ite (fun c190 => ?_) (fun c190 => ?_)
  exact fr_some
  refine fr_ite (fun c200 => ?_) (fun c200 => ?_)
  exact fr_some
  refine fr_upd (by decide) (fun D207 => ?_)
  exact fr_some
theorem g_X48_isCall_fr {x1 x2 : Int} {D : ga_D} : ga_fr 5144 5342 D (g_X48_isCall x1 x2 D) := by
  unfold g_X48_isCall
  refine fr_bind (g_X48_is_fr) (fun r3 D3 => ?_)
  refine fr_ite (fun c6 => ?_) (fun c6 => ?_)
  refine fr_upd (by decide) (fun D13 => ?_)
  refine fr_ite (fun c17 => ?_) (fun c17 => ?_)
  refine fr_bind (g_J20_length_fr) (fun r23 D23 => ?_)
  refine fr_ck (fun hk23_0 => ?_)
  refine g_X48_isCall_l30_fr (fun x3 D186 => ?_) _ _ _ _ _ 
  refine g_X48_isCall_j186_fr _ _ 
  exact fr_some
  exact fr_some
theorem g_X48_bring_j66_fr  (x2 x3 x4 x6 x7 s0 s1 : Int) (D : ga_D) : ga_fr 5144 5342 D (g_X48_bring_j66 x2 x3 x4 x6 x7 s0 s1 D) := by
  unfold g_X48_bring_j66
  refine fr_bind (g_X49_tareOf_fr) (fun r66 D66 => ?_)
  refine fr_ite (fun c75 => ?_) (fun c75 => ?_)
  refine fr_bind (g_X52_kilogramsOf_fr) (fun r88 D88 => ?_)
  refine fr_bind (g_X49_ticket_fr) (fun r112 D112 => ?_)
  refine fr_ite (fun c119 => ?_) (fun c119 => ?_)
  exact fr_some
  refine fr_ck (fun ha128 => ?_)
  refine fr_ck (fun ha133 => ?_)
  refine fr_upd (by decide) (fun D133 => ?_)
  refine fr_ck (fun ha145 => ?_)
  refine fr_bind (g_X50_feed_fr) (fun r146 D146 => ?_)
  exact fr_some
  exact fr_some
theorem g_X48_bring_fr {x1 x2 x3 x4 x6 : Int} {D : ga_D} : ga_fr 5144 5342 D (g_X48_bring x1 x2 x3 x4 x6 D) := by
  unfold g_X48_bring
  refine fr_bind (g_X52_columnSet_fr) (fun r5 D5 => ?_)
  refine fr_ite (fun c12 => ?_) (fun c12 => ?_)
  exact fr_some
  refine fr_ite (fun c16 => ?_) (fun c16 => ?_)
  exact fr_some
  refine fr_ite (fun c21 => ?_) (fun c21 => ?_)
  exact fr_some
  refine fr_ite (fun c28 => ?_) (fun c28 => ?_)
  refine fr_let (fun v41 => ?_)
  refine fr_ite (fun c54 => ?_) (fun c54 => ?_)
  refine g_X48_bring_j66_fr _ _ _ _ _ _ _ _ 
  refine g_X48_bring_j66_fr _ _ _ _ _ _ _ _ 
  exact fr_some
theorem g_X48_sort_l79_fr  {k120 : Int → Int → Int → ga_D → ga_S} (hk120 : ∀ (x1 x2 x5 : Int) (D : ga_D), ga_fr 5144 5342 D (k120 x1 x2 x5 D)) : ∀ (n : Nat) (x1 x2 x5 x6 : Int) (D : ga_D), ga_fr 5144 5342 D (g_X48_sort_l79 n x1 x2 x5 x6 D k120) := by
  intro n
  induction n with
  | zero => intro x1 x2 x5 x6 D; exact fr_none
  | succ n ih =>
    intro x1 x2 x5 x6 D
    show ga_fr 5144 5342 D (if 3 ≤ x6 then (k120 x1 x2 x5 D) else (if x5 < 0 then (k120 x1 x2 x5 D) else (ga_bind (g_X50_out x2 x6 0 D) (fun r106 D106 => ga_bind (g_X56_piece x5 x6 r106 D106) (fun r109 D109 => ga_let (aw_w32 (x6 + 1)) (fun v114 => g_X48_sort_l79 n x1 x2 x5 v114 D109 k120))))))
    refine fr_ite (fun c82 => ?_) (fun c82 => ?_)
    exact hk120 _ _ _ _ 
    refine fr_ite (fun c87 => ?_) (fun c87 => ?_)
    exact hk120 _ _ _ _ 
    refine fr_bind (g_X50_out_fr) (fun r106 D106 => ?_)
    refine fr_bind (g_X56_piece_fr) (fun r109 D109 => ?_)
    refine fr_let (fun v114 => ?_)
    exact ih _ _ _ _ _ 
theorem g_X48_sort_j120_fr  {k18 : Int → Int → ga_D → ga_S} (hk18 : ∀ (x1 x2 : Int) (D : ga_D), ga_fr 5144 5342 D (k18 x1 x2 D)) (x1 x2 x5 : Int) (D : ga_D) : ga_fr 5144 5342 D (g_X48_sort_j120 x1 x2 x5 D k18) := by
  unfold g_X48_sort_j120
  refine fr_ite (fun c123 => ?_) (fun c123 => ?_)
  refine fr_let (fun v132 => ?_)
  refine fr_let (fun v133 => ?_)
  exact hk18 _ _ _ 
  refine fr_let (fun v132 => ?_)
  refine fr_let (fun v133 => ?_)
  exact hk18 _ _ _ 
theorem g_X48_sort_l18_fr  {k139 : Int → ga_D → ga_S} (hk139 : ∀ (x1 : Int) (D : ga_D), ga_fr 5144 5342 D (k139 x1 D)) : ∀ (n : Nat) (x1 x2 : Int) (D : ga_D), ga_fr 5144 5342 D (g_X48_sort_l18 n x1 x2 D k139) := by
  intro n
  induction n with
  | zero => intro x1 x2 D; exact fr_none
  | succ n ih =>
    intro x1 x2 D
    show ga_fr 5144 5342 D (ga_bind (g_X50_out x2 0 0 D) (fun r25 D25 => if r25 < 0 then (k139 x1 D25) else (ga_bind (g_X50_out x2 0 0 D25) (fun r40 D40 => ga_bind (g_X50_out x2 1 0 D40) (fun r50 D50 => ga_bind (g_X50_out x2 2 0 D50) (fun r61 D61 => ga_let (aw_w64 ((aw_w64 (r40 + r50)) + r61)) (fun v65 => ga_bind (g_X56_lot v65 D61) (fun r71 D71 => g_X48_sort_l79 aw_fu x1 x2 r71 0 D71 (fun x1 x2 x5 D120 => g_X48_sort_j120 x1 x2 x5 D120 (fun x1 x2 D18 => g_X48_sort_l18 n x1 x2 D18 k139))))))))))
    refine fr_bind (g_X50_out_fr) (fun r25 D25 => ?_)
    refine fr_ite (fun c30 => ?_) (fun c30 => ?_)
    exact hk139 _ _ 
    refine fr_bind (g_X50_out_fr) (fun r40 D40 => ?_)
    refine fr_bind (g_X50_out_fr) (fun r50 D50 => ?_)
    refine fr_bind (g_X50_out_fr) (fun r61 D61 => ?_)
    refine fr_let (fun v65 => ?_)
    refine fr_bind (g_X56_lot_fr) (fun r71 D71 => ?_)
    refine g_X48_sort_l79_fr (fun x1 x2 x5 D120 => ?_) _ _ _ _ _ _ 
    refine g_X48_sort_j120_fr (fun x1 x2 D18 => ?_) _ _ _ _ 
    exact ih _ _ _ 
theorem g_X48_sort_l141_fr  {k170 : Int → ga_D → ga_S} (hk170 : ∀ (x1 : Int) (D : ga_D), ga_fr 5144 5342 D (k170 x1 D)) : ∀ (n : Nat) (x1 x2 : Int) (D : ga_D), ga_fr 5144 5342 D (g_X48_sort_l141 n x1 x2 D k170) := by
  intro n
  induction n with
  | zero => intro x1 x2 D; exact fr_none
  | succ n ih =>
    intro x1 x2 D
    show ga_fr 5144 5342 D (if 3 ≤ x2 then (k170 x1 D) else (ga_ck (0 ≤ x2 ∧ x2 < 3) (ga_let (ga_set D 5334 x2 0) (fun D152 => ga_bind (g_X50_feed 0 x2 0 D152) (fun r160 D160 => ga_let (aw_w32 (x2 + 1)) (fun v164 => g_X48_sort_l141 n x1 v164 D160 k170))))))
    refine fr_ite (fun c143 => ?_) (fun c143 => ?_)
    exact hk170 _ _ 
    refine fr_ck (fun ha152 => ?_)
    refine fr_upd (by decide) (fun D152 => ?_)
    refine fr_bind (g_X50_feed_fr) (fun r160 D160 => ?_)
    refine fr_let (fun v164 => ?_)
    exact ih _ _ _ 
theorem g_X48_sort_fr {D : ga_D} : ga_fr 5144 5342 D (g_X48_sort D) := by
  unfold g_X48_sort
  refine fr_bind (g_X50_solve_fr) (fun r4 D4 => ?_)
  refine fr_ite (fun c7 => ?_) (fun c7 => ?_)
  refine g_X48_sort_l18_fr (fun x1 D139 => ?_) _ _ _ _ 
  refine g_X48_sort_l141_fr (fun x1 D170 => ?_) _ _ _ _ 
  exact fr_some
  exact fr_some
theorem g_X48_enter_fr {x1 x2 x3 : Int} {D : ga_D} : ga_fr 5144 5342 D (g_X48_enter x1 x2 x3 D) := by
  unfold g_X48_enter
  refine fr_ck (fun ha6 => ?_)
  refine fr_ck (fun ha9 => ?_)
  refine fr_upd (by decide) (fun D9 => ?_)
  refine fr_ck (fun ha16 => ?_)
  refine fr_ck (fun ha19 => ?_)
  refine fr_upd (by decide) (fun D19 => ?_)
  refine fr_ite (fun c27 => ?_) (fun c27 => ?_)
  refine fr_upd (by decide) (fun D67 => ?_)
  exact fr_some
  refine fr_ck (fun ha39 => ?_)
  refine fr_upd (by decide) (fun D39 => ?_)
  refine fr_ck (fun ha49 => ?_)
  refine fr_upd (by decide) (fun D49 => ?_)
  refine fr_ck (fun ha59 => ?_)
  refine fr_upd (by decide) (fun D59 => ?_)
  refine fr_upd (by decide) (fun D67 => ?_)
  exact fr_some
theorem g_X48_sell_fr {x1 : Int} {D : ga_D} : ga_fr 5144 5342 D (g_X48_sell x1 D) := by
  unfold g_X48_sell
  refine fr_bind (g_X56_price_fr) (fun r5 D5 => ?_)
  refine fr_ite (fun c12 => ?_) (fun c12 => ?_)
  exact fr_some
  refine fr_ck (fun ha20 => ?_)
  refine fr_ite (fun c21 => ?_) (fun c21 => ?_)
  refine fr_ck (fun ha34 => ?_)
  refine fr_upd (by decide) (fun D34 => ?_)
  refine fr_bind (g_X48_enter_fr) (fun r39 D39 => ?_)
  exact fr_some
  exact fr_some
theorem g_X48_classify_l22_fr  {k90 : Int → ga_D → ga_S} (hk90 : ∀ (x2 : Int) (D : ga_D), ga_fr 5144 5342 D (k90 x2 D)) : ∀ (n : Nat) (x1 x2 x4 : Int) (D : ga_D), ga_fr 5144 5342 D (g_X48_classify_l22 n x1 x2 x4 D k90) := by
  intro n
  induction n with
  | zero => intro x1 x2 x4 D; exact fr_none
  | succ n ih =>
    intro x1 x2 x4 D
    show ga_fr 5144 5342 D (if 3 ≤ x4 then (k90 x2 D) else (ga_bind (g_X56_share x1 x4 0 D) (fun r39 D39 => ga_let (aw_w64 (1000 * r39)) (fun v43 => ga_bind (g_X56_share x1 x4 1 D39) (fun r53 D53 => ga_ck (r53 ≠ 0) (ga_ck (r53 ≠ 0) (ga_bind (g_X51_part x4 (aw_w64 (Int.tdiv v43 r53)) (aw_w64 (Int.tdiv (aw_w64 ((aw_w64 (v43 + r53)) - 1)) r53)) D53) (fun r79 D79 => ga_let (aw_w32 (x4 + 1)) (fun v84 => g_X48_classify_l22 n x1 x2 v84 D79 k90)))))))))
    refine fr_ite (fun c25 => ?_) (fun c25 => ?_)
    exact hk90 _ _ 
    refine fr_bind (g_X56_share_fr) (fun r39 D39 => ?_)
    refine fr_let (fun v43 => ?_)
    refine fr_bind (g_X56_share_fr) (fun r53 D53 => ?_)
    refine fr_ck (fun hz68 => ?_)
    refine fr_ck (fun hz78 => ?_)
    refine fr_bind (g_X51_part_fr) (fun r79 D79 => ?_)
    refine fr_let (fun v84 => ?_)
    exact ih _ _ _ _ 
theorem g_X48_classify_fr {x1 x2 : Int} {D : ga_D} : ga_fr 5144 5342 D (g_X48_classify x1 x2 D) := by
  unfold g_X48_classify
  refine fr_bind (g_X56_share_fr) (fun r7 D7 => ?_)
  refine fr_ite (fun c12 => ?_) (fun c12 => ?_)
  refine g_X48_classify_l22_fr (fun x2 D90 => ?_) _ _ _ _ _ 
  refine fr_bind (g_X51_run_fr) (fun r95 D95 => ?_)
  refine fr_bind (g_X51_moving_fr) (fun r104 D104 => ?_)
  exact fr_some
  exact fr_some
theorem g_X48_keep_j85_fr  (x2 s0 s1 s2 : Int) (D : ga_D) : ga_fr 5144 5342 D (g_X48_keep_j85 x2 s0 s1 s2 D) := by
  unfold g_X48_keep_j85
  refine fr_bind (g_X53_load_fr) (fun r85 D85 => ?_)
  refine fr_ite (fun c92 => ?_) (fun c92 => ?_)
  refine fr_bind (g_X53_put_fr) (fun r108 D108 => ?_)
  exact fr_some
  exact fr_some
theorem g_X48_keep_j68_fr  (x2 x6 s0 s1 : Int) (D : ga_D) : ga_fr 5144 5342 D (g_X48_keep_j68 x2 x6 s0 s1 D) := by
  unfold g_X48_keep_j68
  refine fr_ite (fun c74 => ?_) (fun c74 => ?_)
  refine g_X48_keep_j85_fr _ _ _ _ _ 
  refine g_X48_keep_j85_fr _ _ _ _ _ 
theorem g_X48_keep_fr {x1 x2 : Int} {D : ga_D} : ga_fr 5144 5342 D (g_X48_keep x1 x2 D) := by
  unfold g_X48_keep
  refine fr_bind (g_X51_moving_fr) (fun r4 D4 => ?_)
  refine fr_bind (g_X56_isLot_fr) (fun r13 D13 => ?_)
  refine fr_ite (fun c16 => ?_) (fun c16 => ?_)
  exact fr_some
  refine fr_ite (fun c20 => ?_) (fun c20 => ?_)
  refine fr_ck (fun ha35 => ?_)
  refine fr_let (fun v36 => ?_)
  refine fr_let (fun v44 => ?_)
  refine fr_ite (fun c57 => ?_) (fun c57 => ?_)
  refine g_X48_keep_j68_fr _ _ _ _ _ 
  refine g_X48_keep_j68_fr _ _ _ _ _ 
  exact fr_some
theorem g_X48_isInRing_l4_fr  {k43 : Int → ga_D → ga_S} (hk43 : ∀ (x2 : Int) (D : ga_D), ga_fr 5144 5342 D (k43 x2 D)) : ∀ (n : Nat) (x1 x2 x3 : Int) (D : ga_D), ga_fr 5144 5342 D (g_X48_isInRing_l4 n x1 x2 x3 D k43) := by
  intro n
  induction n with
  | zero => intro x1 x2 x3 D; exact fr_none
  | succ n ih =>
    intro x1 x2 x3 D
    show ga_fr 5144 5342 D (ga_bind (g_X54_ring x3 D) (fun r9 D9 => if r9 < 0 then (k43 x2 D9) else (if x2 ≠ 0 then (ga_let (aw_w32 (x3 + 1)) (fun v37 => g_X48_isInRing_l4 n x1 1 v37 D9 k43)) else (ga_bind (g_X54_ring x3 D9) (fun r24 D24 => if r24 ≠ x1 then (ga_let (aw_w32 (x3 + 1)) (fun v37 => g_X48_isInRing_l4 n x1 0 v37 D24 k43)) else (ga_let (aw_w32 (x3 + 1)) (fun v37 => g_X48_isInRing_l4 n x1 1 v37 D24 k43)))))))
    refine fr_bind (g_X54_ring_fr) (fun r9 D9 => ?_)
    refine fr_ite (fun c12 => ?_) (fun c12 => ?_)
    exact hk43 _ _ 
    refine fr_ite (fun c16 => ?_) (fun c16 => ?_)
    refine fr_let (fun v37 => ?_)
    exact ih _ _ _ _ 
    refine fr_bind (g_X54_ring_fr) (fun r24 D24 => ?_)
    refine fr_ite (fun c28 => ?_) (fun c28 => ?_)
    refine fr_let (fun v37 => ?_)
    exact ih _ _ _ _ 
    refine fr_let (fun v37 => ?_)
    exact ih _ _ _ _ 
theorem g_X48_isInRing_fr {x1 : Int} {D : ga_D} : ga_fr 5144 5342 D (g_X48_isInRing x1 D) := by
  unfold g_X48_isInRing
  refine g_X48_isInRing_l4_fr (fun x2 D43 => ?_) _ _ _ _ _ 
  refine fr_ck (fun hr44 => ?_)
  exact fr_some
theorem g_X48_undo_j77_fr  {k14 : Int → Int → Int → ga_D → ga_S} (hk14 : ∀ (x1 x2 x3 : Int) (D : ga_D), ga_fr 5144 5342 D (k14 x1 x2 x3 D)) (x1 x2 x3 s0 s1 s2 : Int) (D : ga_D) : ga_fr 5144 5342 D (g_X48_undo_j77 x1 x2 x3 s0 s1 s2 D k14) := by
  unfold g_X48_undo_j77
  refine fr_ck (fun ha77_0 => ?_)
  refine fr_ck (fun hg77_1 => ?_)
  refine fr_ck (fun ha77 => ?_)
  refine fr_upd (by omega) (fun D77 => ?_)
  refine fr_ck (fun ha84 => ?_)
  refine fr_ite (fun c85 => ?_) (fun c85 => ?_)
  refine fr_let (fun v94 => ?_)
  refine fr_let (fun v95 => ?_)
  exact hk14 _ _ _ _ 
  refine fr_let (fun v94 => ?_)
  refine fr_let (fun v95 => ?_)
  exact hk14 _ _ _ _ 
theorem g_X48_undo_l14_fr  {k101 : Int → Int → ga_D → ga_S} (hk101 : ∀ (x1 x2 : Int) (D : ga_D), ga_fr 5144 5342 D (k101 x1 x2 D)) : ∀ (n : Nat) (x1 x2 x3 : Int) (D : ga_D), ga_fr 5144 5342 D (g_X48_undo_l14 n x1 x2 x3 D k101) := by
  intro n
  induction n with
  | zero => intro x1 x2 x3 D; exact fr_none
  | succ n ih =>
    intro x1 x2 x3 D
    show ga_fr 5144 5342 D (if x2 ≤ x3 then (k101 x1 x2 D) else (ga_bind (g_X48_isInRing x3 D) (fun r26 D26 => if r26 = 0 then (ga_ck (0 ≤ x3 ∧ x3 < 20) (ga_ck (0 ≤ x3 ∧ x3 < 20) (ga_ck (0 ≤ x3 ∧ x3 < 20) (ga_bind (g_X55_act x3 (Int.tmod (D26 5252 x3) 6) (aw_w32 (1 + (D26 5259 x3))) (D26 5253 x3) D26) (fun r74 D74 => g_X48_undo_j77 x1 x2 x3 r74 x3 5340 D74 (fun x1 x2 x3 D14 => g_X48_undo_l14 n x1 x2 x3 D14 k101)))))) else (g_X48_undo_j77 x1 x2 x3 (-1) x3 5340 D26 (fun x1 x2 x3 D14 => g_X48_undo_l14 n x1 x2 x3 D14 k101)))))
    refine fr_ite (fun c16 => ?_) (fun c16 => ?_)
    exact hk101 _ _ _ 
    refine fr_bind (g_X48_isInRing_fr) (fun r26 D26 => ?_)
    refine fr_ite (fun c29 => ?_) (fun c29 => ?_)
    refine fr_ck (fun ha49 => ?_)
    refine fr_ck (fun ha62 => ?_)
    refine fr_ck (fun ha72 => ?_)
    refine fr_bind (g_X55_act_fr) (fun r74 D74 => ?_)
    refine g_X48_undo_j77_fr (fun x1 x2 x3 D14 => ?_) _ _ _ _ _ _ _ 
    exact ih _ _ _ _ 
    refine g_X48_undo_j77_fr (fun x1 x2 x3 D14 => ?_) _ _ _ _ _ _ _ 
    exact ih _ _ _ _ 
theorem g_X48_undo_l111_fr  {k191 : Int → Int → Int → ga_D → ga_S} (hk191 : ∀ (x1 x2 x3 : Int) (D : ga_D), ga_fr 5144 5342 D (k191 x1 x2 x3 D)) : ∀ (n : Nat) (x1 x2 x3 x4 : Int) (D : ga_D), ga_fr 5144 5342 D (g_X48_undo_l111 n x1 x2 x3 x4 D k191) := by
  intro n
  induction n with
  | zero => intro x1 x2 x3 x4 D; exact fr_none
  | succ n ih =>
    intro x1 x2 x3 x4 D
    show ga_fr 5144 5342 D (ga_bind (g_X54_before x3 x4 D) (fun r118 D118 => if r118 < 0 then (k191 x1 x2 x3 D118) else (ga_bind (g_X54_before x3 x4 D118) (fun r131 D131 => ga_ck (0 ≤ x3 ∧ x3 < 10) (if D131 5340 x3 < 0 then (ga_let (aw_w32 (x4 + 1)) (fun v185 => g_X48_undo_l111 n x1 x2 x3 v185 D131 k191)) else (ga_ck (0 ≤ r131 ∧ r131 < 10) (if D131 5340 r131 < 0 then (ga_let (aw_w32 (x4 + 1)) (fun v185 => g_X48_undo_l111 n x1 x2 x3 v185 D131 k191)) else (ga_ck (0 ≤ r131 ∧ r131 < 10) (ga_ck (0 ≤ x3 ∧ x3 < 10) (ga_bind (g_X55_before (D131 5340 r131) (D131 5340 x3) D131) (fun r172 D172 => if r172 = 0 then (ga_let (aw_w32 (x4 + 1)) (fun v185 => g_X48_undo_l111 n x1 x2 x3 v185 D172 k191)) else (ga_let (aw_w32 (x4 + 1)) (fun v185 => g_X48_undo_l111 n x1 x2 x3 v185 D172 k191)))))))))))))
    refine fr_bind (g_X54_before_fr) (fun r118 D118 => ?_)
    refine fr_ite (fun c121 => ?_) (fun c121 => ?_)
    exact hk191 _ _ _ _ 
    refine fr_bind (g_X54_before_fr) (fun r131 D131 => ?_)
    refine fr_ck (fun ha141 => ?_)
    refine fr_ite (fun c142 => ?_) (fun c142 => ?_)
    refine fr_let (fun v185 => ?_)
    exact ih _ _ _ _ _ 
    refine fr_ck (fun ha151 => ?_)
    refine fr_ite (fun c152 => ?_) (fun c152 => ?_)
    refine fr_let (fun v185 => ?_)
    exact ih _ _ _ _ _ 
    refine fr_ck (fun ha165 => ?_)
    refine fr_ck (fun ha171 => ?_)
    refine fr_bind (g_X55_before_fr) (fun r172 D172 => ?_)
    refine fr_ite (fun c175 => ?_) (fun c175 => ?_)
    refine fr_let (fun v185 => ?_)
    exact ih _ _ _ _ _ 
    refine fr_let (fun v185 => ?_)
    exact ih _ _ _ _ _ 
theorem g_X48_undo_l103_fr  {k197 : Int → ga_D → ga_S} (hk197 : ∀ (x1 : Int) (D : ga_D), ga_fr 5144 5342 D (k197 x1 D)) : ∀ (n : Nat) (x1 x2 x3 : Int) (D : ga_D), ga_fr 5144 5342 D (g_X48_undo_l103 n x1 x2 x3 D k197) := by
  intro n
  induction n with
  | zero => intro x1 x2 x3 D; exact fr_none
  | succ n ih =>
    intro x1 x2 x3 D
    show ga_fr 5144 5342 D (if x2 ≤ x3 then (k197 x1 D) else (g_X48_undo_l111 aw_fu x1 x2 x3 0 D (fun x1 x2 x3 D191 => ga_let (aw_w32 (x3 + 1)) (fun v191 => g_X48_undo_l103 n x1 x2 v191 D191 k197))))
    refine fr_ite (fun c105 => ?_) (fun c105 => ?_)
    exact hk197 _ _ 
    refine g_X48_undo_l111_fr (fun x1 x2 x3 D191 => ?_) _ _ _ _ _ _ 
    refine fr_let (fun v191 => ?_)
    exact ih _ _ _ _ 
theorem g_X48_undo_fr {D : ga_D} : ga_fr 5144 5342 D (g_X48_undo D) := by
  unfold g_X48_undo
  refine fr_ck (fun ha10 => ?_)
  refine fr_let (fun v11 => ?_)
  refine g_X48_undo_l14_fr (fun x1 x2 D101 => ?_) _ _ _ _ _ 
  refine g_X48_undo_l103_fr (fun x1 D197 => ?_) _ _ _ _ _ 
  exact fr_some
theorem g_X48_refund_fr {x1 x2 x4 x5 x6 : Int} {D : ga_D} : ga_fr 5144 5342 D (g_X48_refund x1 x2 x4 x5 x6 D) := by
  unfold g_X48_refund
  refine fr_bind (g_X57_give_fr) (fun r12 D12 => ?_)
  refine fr_ite (fun c20 => ?_) (fun c20 => ?_)
  exact fr_some
  refine fr_bind (g_X48_enter_fr) (fun r29 D29 => ?_)
  exact fr_some
theorem g_X48_fee_l38_fr  {k95 : Int → ga_D → ga_S} (hk95 : ∀ (x4 : Int) (D : ga_D), ga_fr 5144 5342 D (k95 x4 D)) : ∀ (n : Nat) (x1 x2 x4 x6 : Int) (D : ga_D), ga_fr 5144 5342 D (g_X48_fee_l38 n x1 x2 x4 x6 D k95) := by
  intro n
  induction n with
  | zero => intro x1 x2 x4 x6 D; exact fr_none
  | succ n ih =>
    intro x1 x2 x4 x6 D
    show ga_fr 5144 5342 D (if 8 ≤ x6 then (k95 x4 D) else (ga_bind (g_X49_share x1 x6 D) (fun r52 D52 => ga_let (aw_w64 (Int.tdiv (aw_w64 (r52 * x2)) 1000)) (fun v61 => if v61 ≤ 0 then (ga_let (aw_w32 (x6 + 1)) (fun v89 => g_X48_fee_l38 n x1 x2 x4 v89 D52 k95)) else (ga_bind (g_X48_enter (aw_w32 (8 + x6)) 4 v61 D52) (fun r79 D79 => ga_let (aw_w64 (x4 + v61)) (fun v87 => ga_let (aw_w32 (x6 + 1)) (fun v89 => g_X48_fee_l38 n x1 x2 v87 v89 D79 k95))))))))
    refine fr_ite (fun c42 => ?_) (fun c42 => ?_)
    exact hk95 _ _ 
    refine fr_bind (g_X49_share_fr) (fun r52 D52 => ?_)
    refine fr_let (fun v61 => ?_)
    refine fr_ite (fun c67 => ?_) (fun c67 => ?_)
    refine fr_let (fun v89 => ?_)
    exact ih _ _ _ _ _ 
    refine fr_bind (g_X48_enter_fr) (fun r79 D79 => ?_)
    refine fr_let (fun v87 => ?_)
    refine fr_let (fun v89 => ?_)
    exact ih _ _ _ _ _ 
theorem g_X48_fee_fr {x1 x2 : Int} {D : ga_D} : ga_fr 5144 5342 D (g_X48_fee x1 x2 D) := by
  unfold g_X48_fee
  refine fr_ite (fun c3 => ?_) (fun c3 => ?_)
  exact fr_some
  refine fr_ite (fun c11 => ?_) (fun c11 => ?_)
  exact fr_some
  refine fr_bind (g_X49_share_fr) (fun r20 D20 => ?_)
  refine fr_ite (fun c25 => ?_) (fun c25 => ?_)
  refine g_X48_fee_l38_fr (fun x4 D95 => ?_) _ _ _ _ _ _ 
  exact fr_some
  exact fr_some
theorem g_X48_account_fr {x1 : Int} {D : ga_D} : ga_fr 5144 5342 D (g_X48_account x1 D) := by
  unfold g_X48_account
  refine fr_upd (by decide) (fun D2 => ?_)
  refine fr_ite (fun c6 => ?_) (fun c6 => ?_)
  exact fr_some
  refine fr_ite (fun c12 => ?_) (fun c12 => ?_)
  exact fr_some
  refine fr_ck (fun ha20 => ?_)
  exact fr_some
theorem g_X48_entry_fr {x1 x2 : Int} {D : ga_D} : ga_fr 5144 5342 D (g_X48_entry x1 x2 D) := by
  unfold g_X48_entry
  refine fr_ite (fun c1 => ?_) (fun c1 => ?_)
  exact fr_some
  refine fr_ite (fun c9 => ?_) (fun c9 => ?_)
  exact fr_some
  refine fr_ite (fun c16 => ?_) (fun c16 => ?_)
  refine fr_ite (fun c24 => ?_) (fun c24 => ?_)
  refine fr_ite (fun c39 => ?_) (fun c39 => ?_)
  refine fr_ite (fun c54 => ?_) (fun c54 => ?_)
  exact fr_some
  refine fr_ck (fun ha62 => ?_)
  exact fr_some
  refine fr_ck (fun ha47 => ?_)
  exact fr_some
  refine fr_ck (fun ha32 => ?_)
  exact fr_some
  exact fr_some
theorem g_X48_sound_l9_fr  {k30 : Int → ga_D → ga_S} (hk30 : ∀ (x1 : Int) (D : ga_D), ga_fr 5144 5342 D (k30 x1 D)) : ∀ (n : Nat) (x1 x3 : Int) (D : ga_D), ga_fr 5144 5342 D (g_X48_sound_l9 n x1 x3 D k30) := by
  intro n
  induction n with
  | zero => intro x1 x3 D; exact fr_none
  | succ n ih =>
    intro x1 x3 D
    show ga_fr 5144 5342 D (if 16 ≤ x3 then (k30 x1 D) else (ga_ck (0 ≤ x3 ∧ x3 < 16) (ga_let (aw_w64 (x1 + (D 5336 x3))) (fun v23 => ga_let (aw_w32 (x3 + 1)) (fun v24 => g_X48_sound_l9 n v23 v24 D k30)))))
    refine fr_ite (fun c12 => ?_) (fun c12 => ?_)
    exact hk30 _ _ 
    refine fr_ck (fun ha21 => ?_)
    refine fr_let (fun v23 => ?_)
    refine fr_let (fun v24 => ?_)
    exact ih _ _ _ 
theorem g_X48_sound_fr {D : ga_D} : ga_fr 5144 5342 D (g_X48_sound D) := by
  unfold g_X48_sound
  refine fr_upd (by decide) (fun D2 => ?_)
  refine g_X48_sound_l9_fr (fun x1 D30 => ?_) _ _ _ _ 
  refine fr_bind (g_X49_check_fr) (fun r35 D35 => ?_)
  refine fr_ite (fun c38 => ?_) (fun c38 => ?_)
  exact fr_some
  refine fr_ite (fun c44 => ?_) (fun c44 => ?_)
  exact fr_some
  refine fr_bind (g_X53_kept_fr) (fun r51 D51 => ?_)
  refine fr_ite (fun c54 => ?_) (fun c54 => ?_)
  exact fr_some
  exact fr_some
theorem g_X48_flag_fr {x0 : Int} {D : ga_D} : ga_fr 5144 5342 D (g_X48_flag x0 D) := by
  unfold g_X48_flag
  refine fr_ite (fun c1 => ?_) (fun c1 => ?_)
  exact fr_some
  exact fr_some
theorem g_X48_none_fr {D : ga_D} : ga_fr 5144 5342 D (g_X48_none D) := by
  unfold g_X48_none
  refine fr_ite (fun c4 => ?_) (fun c4 => ?_)
  exact fr_some
  refine fr_upd (by decide) (fun D9 => ?_)
  exact fr_some
theorem g_X48_house_fr {D : ga_D} : ga_fr 5144 5342 D (g_X48_house D) := by
  unfold g_X48_house
  refine fr_bind (g_X48_isCall_fr) (fun r7 D7 => ?_)
  refine fr_ite (fun c10 => ?_) (fun c10 => ?_)
  refine fr_bind (g_X48_isCall_fr) (fun r70 D70 => ?_)
  refine fr_ite (fun c73 => ?_) (fun c73 => ?_)
  refine fr_bind (g_X48_isCall_fr) (fun r99 D99 => ?_)
  refine fr_ite (fun c102 => ?_) (fun c102 => ?_)
  refine fr_bind (g_X48_isCall_fr) (fun r135 D135 => ?_)
  refine fr_ite (fun c138 => ?_) (fun c138 => ?_)
  refine fr_bind (g_X48_isCall_fr) (fun r177 D177 => ?_)
  refine fr_ite (fun c180 => ?_) (fun c180 => ?_)
  refine fr_bind (g_X48_isCall_fr) (fun r220 D220 => ?_)
  refine fr_ite (fun c223 => ?_) (fun c223 => ?_)
  refine fr_bind (g_X48_isCall_fr) (fun r249 D249 => ?_)
  refine fr_ite (fun c252 => ?_) (fun c252 => ?_)
  refine fr_bind (g_X48_isCall_fr) (fun r311 D311 => ?_)
  refine fr_ite (fun c314 => ?_) (fun c314 => ?_)
  refine fr_bind (g_X48_isCall_fr) (fun r353 D353 => ?_)
  refine fr_ite (fun c356 => ?_) (fun c356 => ?_)
  refine fr_bind (g_X48_isCall_fr) (fun r389 D389 => ?_)
  refine fr_ite (fun c392 => ?_) (fun c392 => ?_)
  refine fr_bind (g_X48_isCall_fr) (fun r408 D408 => ?_)
  refine fr_ite (fun c411 => ?_) (fun c411 => ?_)
  refine fr_bind (g_X48_isCall_fr) (fun r451 D451 => ?_)
  refine fr_ite (fun c454 => ?_) (fun c454 => ?_)
  refine fr_bind (g_X48_isCall_fr) (fun r518 D518 => ?_)
  refine fr_ite (fun c521 => ?_) (fun c521 => ?_)
  refine fr_bind (g_X48_none_fr) (fun r544 D544 => ?_)
  exact fr_some
  refine fr_ite (fun c528 => ?_) (fun c528 => ?_)
  exact fr_some
  refine fr_bind (g_X48_sound_fr) (fun r532 D532 => ?_)
  refine fr_bind (g_X48_flag_fr) (fun r535 D535 => ?_)
  exact fr_some
  refine fr_ite (fun c461 => ?_) (fun c461 => ?_)
  exact fr_some
  refine fr_ck (fun ha469 => ?_)
  refine fr_ite (fun c472 => ?_) (fun c472 => ?_)
  exact fr_some
  refine fr_ck (fun ha480 => ?_)
  refine fr_ite (fun c485 => ?_) (fun c485 => ?_)
  exact fr_some
  refine fr_ck (fun ha497 => ?_)
  refine fr_ck (fun ha499 => ?_)
  exact fr_some
  refine fr_ite (fun c418 => ?_) (fun c418 => ?_)
  exact fr_some
  refine fr_ck (fun ha427 => ?_)
  refine fr_ck (fun ha434 => ?_)
  refine fr_bind (g_X48_entry_fr) (fun r436 D436 => ?_)
  exact fr_some
  exact fr_some
  refine fr_ite (fun c363 => ?_) (fun c363 => ?_)
  exact fr_some
  refine fr_ck (fun ha372 => ?_)
  refine fr_bind (g_X48_account_fr) (fun r374 D374 => ?_)
  exact fr_some
  refine fr_ite (fun c321 => ?_) (fun c321 => ?_)
  exact fr_some
  refine fr_ck (fun ha330 => ?_)
  refine fr_ck (fun ha337 => ?_)
  refine fr_bind (g_X48_fee_fr) (fun r338 D338 => ?_)
  exact fr_some
  refine fr_ite (fun c259 => ?_) (fun c259 => ?_)
  exact fr_some
  refine fr_ck (fun ha268 => ?_)
  refine fr_ck (fun ha275 => ?_)
  refine fr_ck (fun ha281 => ?_)
  refine fr_ck (fun ha288 => ?_)
  refine fr_ck (fun ha295 => ?_)
  refine fr_bind (g_X48_refund_fr) (fun r296 D296 => ?_)
  exact fr_some
  refine fr_ite (fun c230 => ?_) (fun c230 => ?_)
  exact fr_some
  refine fr_bind (g_X48_undo_fr) (fun r234 D234 => ?_)
  exact fr_some
  refine fr_ite (fun c187 => ?_) (fun c187 => ?_)
  exact fr_some
  refine fr_ck (fun ha196 => ?_)
  refine fr_ck (fun ha203 => ?_)
  refine fr_bind (g_X48_keep_fr) (fun r205 D205 => ?_)
  exact fr_some
  refine fr_ite (fun c145 => ?_) (fun c145 => ?_)
  exact fr_some
  refine fr_ck (fun ha154 => ?_)
  refine fr_ck (fun ha161 => ?_)
  refine fr_bind (g_X48_classify_fr) (fun r162 D162 => ?_)
  exact fr_some
  refine fr_ite (fun c109 => ?_) (fun c109 => ?_)
  exact fr_some
  refine fr_ck (fun ha118 => ?_)
  refine fr_bind (g_X48_sell_fr) (fun r120 D120 => ?_)
  exact fr_some
  refine fr_ite (fun c80 => ?_) (fun c80 => ?_)
  exact fr_some
  refine fr_bind (g_X48_sort_fr) (fun r84 D84 => ?_)
  exact fr_some
  refine fr_ite (fun c17 => ?_) (fun c17 => ?_)
  exact fr_some
  refine fr_ck (fun ha26 => ?_)
  refine fr_ck (fun ha33 => ?_)
  refine fr_ck (fun ha40 => ?_)
  refine fr_ck (fun ha47 => ?_)
  refine fr_ck (fun ha53 => ?_)
  refine fr_bind (g_X48_bring_fr) (fun r55 D55 => ?_)
  exact fr_some
theorem g_X48_tickets_fr {D : ga_D} : ga_fr 5144 5342 D (g_X48_tickets D) := by
  unfold g_X48_tickets
  refine fr_bind (g_X48_isCall_fr) (fun r7 D7 => ?_)
  refine fr_ite (fun c10 => ?_) (fun c10 => ?_)
  refine fr_bind (g_X48_isCall_fr) (fun r62 D62 => ?_)
  refine fr_ite (fun c65 => ?_) (fun c65 => ?_)
  refine fr_bind (g_X48_isCall_fr) (fun r134 D134 => ?_)
  refine fr_ite (fun c137 => ?_) (fun c137 => ?_)
  refine fr_bind (g_X48_isCall_fr) (fun r194 D194 => ?_)
  refine fr_ite (fun c197 => ?_) (fun c197 => ?_)
  refine fr_bind (g_X48_isCall_fr) (fun r241 D241 => ?_)
  refine fr_ite (fun c244 => ?_) (fun c244 => ?_)
  refine fr_bind (g_X48_isCall_fr) (fun r287 D287 => ?_)
  refine fr_ite (fun c290 => ?_) (fun c290 => ?_)
  refine fr_bind (g_X48_isCall_fr) (fun r327 D327 => ?_)
  refine fr_ite (fun c330 => ?_) (fun c330 => ?_)
  refine fr_bind (g_X48_isCall_fr) (fun r367 D367 => ?_)
  refine fr_ite (fun c370 => ?_) (fun c370 => ?_)
  refine fr_bind (g_X48_isCall_fr) (fun r400 D400 => ?_)
  refine fr_ite (fun c403 => ?_) (fun c403 => ?_)
  refine fr_bind (g_X48_isCall_fr) (fun r433 D433 => ?_)
  refine fr_ite (fun c436 => ?_) (fun c436 => ?_)
  refine fr_bind (g_X48_isCall_fr) (fun r488 D488 => ?_)
  refine fr_ite (fun c491 => ?_) (fun c491 => ?_)
  refine fr_bind (g_X48_isCall_fr) (fun r534 D534 => ?_)
  refine fr_ite (fun c537 => ?_) (fun c537 => ?_)
  refine fr_bind (g_X48_isCall_fr) (fun r581 D581 => ?_)
  refine fr_ite (fun c584 => ?_) (fun c584 => ?_)
  refine fr_bind (g_X48_isCall_fr) (fun r637 D637 => ?_)
  refine fr_ite (fun c640 => ?_) (fun c640 => ?_)
  refine fr_bind (g_X48_isCall_fr) (fun r684 D684 => ?_)
  refine fr_ite (fun c687 => ?_) (fun c687 => ?_)
  refine fr_bind (g_X48_isCall_fr) (fun r731 D731 => ?_)
  refine fr_ite (fun c734 => ?_) (fun c734 => ?_)
  refine fr_bind (g_X48_isCall_fr) (fun r771 D771 => ?_)
  refine fr_ite (fun c774 => ?_) (fun c774 => ?_)
  refine fr_bind (g_X48_none_fr) (fun r812 D812 => ?_)
  exact fr_some
  refine fr_ite (fun c781 => ?_) (fun c781 => ?_)
  exact fr_some
  refine fr_ck (fun ha793 => ?_)
  refine fr_ck (fun ha800 => ?_)
  refine fr_bind (g_X49_root_fr) (fun r802 D802 => ?_)
  exact fr_some
  refine fr_ite (fun c741 => ?_) (fun c741 => ?_)
  exact fr_some
  refine fr_ck (fun ha753 => ?_)
  refine fr_bind (g_X49_check_fr) (fun r755 D755 => ?_)
  exact fr_some
  refine fr_ite (fun c694 => ?_) (fun c694 => ?_)
  exact fr_some
  refine fr_ck (fun ha706 => ?_)
  refine fr_ck (fun ha713 => ?_)
  refine fr_bind (g_X49_digest_fr) (fun r715 D715 => ?_)
  exact fr_some
  refine fr_ite (fun c647 => ?_) (fun c647 => ?_)
  exact fr_some
  refine fr_ck (fun ha659 => ?_)
  refine fr_ck (fun ha666 => ?_)
  refine fr_bind (g_X49_byteAt_fr) (fun r668 D668 => ?_)
  exact fr_some
  refine fr_ite (fun c591 => ?_) (fun c591 => ?_)
  exact fr_some
  refine fr_ck (fun ha603 => ?_)
  refine fr_ck (fun ha610 => ?_)
  refine fr_ck (fun ha617 => ?_)
  refine fr_bind (g_X49_poke_fr) (fun r619 D619 => ?_)
  refine fr_bind (g_X48_flag_fr) (fun r622 D622 => ?_)
  exact fr_some
  refine fr_ite (fun c544 => ?_) (fun c544 => ?_)
  exact fr_some
  refine fr_ck (fun ha556 => ?_)
  refine fr_ck (fun ha563 => ?_)
  refine fr_bind (g_X49_print_fr) (fun r565 D565 => ?_)
  exact fr_some
  refine fr_ite (fun c498 => ?_) (fun c498 => ?_)
  exact fr_some
  refine fr_ck (fun ha510 => ?_)
  refine fr_ck (fun ha517 => ?_)
  refine fr_bind (g_X49_share_fr) (fun r519 D519 => ?_)
  exact fr_some
  refine fr_ite (fun c443 => ?_) (fun c443 => ?_)
  exact fr_some
  refine fr_ck (fun ha455 => ?_)
  refine fr_ck (fun ha462 => ?_)
  refine fr_ck (fun ha469 => ?_)
  refine fr_bind (g_X49_split_fr) (fun r470 D470 => ?_)
  refine fr_bind (g_X48_flag_fr) (fun r473 D473 => ?_)
  exact fr_some
  refine fr_ite (fun c410 => ?_) (fun c410 => ?_)
  exact fr_some
  refine fr_bind (g_X49_made_fr) (fun r417 D417 => ?_)
  exact fr_some
  refine fr_ite (fun c377 => ?_) (fun c377 => ?_)
  exact fr_some
  refine fr_bind (g_X49_rows_fr) (fun r384 D384 => ?_)
  exact fr_some
  refine fr_ite (fun c337 => ?_) (fun c337 => ?_)
  exact fr_some
  refine fr_ck (fun ha349 => ?_)
  refine fr_bind (g_X49_gap_fr) (fun r351 D351 => ?_)
  exact fr_some
  refine fr_ite (fun c297 => ?_) (fun c297 => ?_)
  exact fr_some
  refine fr_ck (fun ha309 => ?_)
  refine fr_bind (g_X49_number_fr) (fun r311 D311 => ?_)
  exact fr_some
  refine fr_ite (fun c251 => ?_) (fun c251 => ?_)
  exact fr_some
  refine fr_ck (fun ha263 => ?_)
  refine fr_ck (fun ha270 => ?_)
  refine fr_bind (g_X49_at_fr) (fun r272 D272 => ?_)
  exact fr_some
  refine fr_ite (fun c204 => ?_) (fun c204 => ?_)
  exact fr_some
  refine fr_ck (fun ha216 => ?_)
  refine fr_ck (fun ha223 => ?_)
  refine fr_bind (g_X49_voids_fr) (fun r225 D225 => ?_)
  exact fr_some
  refine fr_ite (fun c144 => ?_) (fun c144 => ?_)
  exact fr_some
  refine fr_ck (fun ha156 => ?_)
  refine fr_ck (fun ha163 => ?_)
  refine fr_ck (fun ha170 => ?_)
  refine fr_ck (fun ha176 => ?_)
  refine fr_bind (g_X49_correct_fr) (fun r178 D178 => ?_)
  exact fr_some
  refine fr_ite (fun c72 => ?_) (fun c72 => ?_)
  exact fr_some
  refine fr_ck (fun ha84 => ?_)
  refine fr_ck (fun ha91 => ?_)
  refine fr_ck (fun ha98 => ?_)
  refine fr_ck (fun ha104 => ?_)
  refine fr_ck (fun ha110 => ?_)
  refine fr_ck (fun ha116 => ?_)
  refine fr_bind (g_X49_ticket_fr) (fun r118 D118 => ?_)
  exact fr_some
  refine fr_ite (fun c17 => ?_) (fun c17 => ?_)
  exact fr_some
  refine fr_ck (fun ha29 => ?_)
  refine fr_ck (fun ha36 => ?_)
  refine fr_ck (fun ha43 => ?_)
  refine fr_bind (g_X49_follows_fr) (fun r44 D44 => ?_)
  refine fr_bind (g_X48_flag_fr) (fun r47 D47 => ?_)
  exact fr_some
theorem g_X48_line_fr {D : ga_D} : ga_fr 5144 5342 D (g_X48_line D) := by
  unfold g_X48_line
  refine fr_bind (g_X48_isCall_fr) (fun r7 D7 => ?_)
  refine fr_ite (fun c10 => ?_) (fun c10 => ?_)
  refine fr_bind (g_X48_isCall_fr) (fun r47 D47 => ?_)
  refine fr_ite (fun c50 => ?_) (fun c50 => ?_)
  refine fr_bind (g_X48_isCall_fr) (fun r80 D80 => ?_)
  refine fr_ite (fun c83 => ?_) (fun c83 => ?_)
  refine fr_bind (g_X48_isCall_fr) (fun r136 D136 => ?_)
  refine fr_ite (fun c139 => ?_) (fun c139 => ?_)
  refine fr_bind (g_X48_isCall_fr) (fun r204 D204 => ?_)
  refine fr_ite (fun c207 => ?_) (fun c207 => ?_)
  refine fr_bind (g_X48_isCall_fr) (fun r272 D272 => ?_)
  refine fr_ite (fun c275 => ?_) (fun c275 => ?_)
  refine fr_bind (g_X48_isCall_fr) (fun r327 D327 => ?_)
  refine fr_ite (fun c330 => ?_) (fun c330 => ?_)
  refine fr_bind (g_X48_isCall_fr) (fun r360 D360 => ?_)
  refine fr_ite (fun c363 => ?_) (fun c363 => ?_)
  refine fr_bind (g_X48_isCall_fr) (fun r413 D413 => ?_)
  refine fr_ite (fun c416 => ?_) (fun c416 => ?_)
  refine fr_bind (g_X48_isCall_fr) (fun r459 D459 => ?_)
  refine fr_ite (fun c462 => ?_) (fun c462 => ?_)
  refine fr_bind (g_X48_isCall_fr) (fun r513 D513 => ?_)
  refine fr_ite (fun c516 => ?_) (fun c516 => ?_)
  refine fr_bind (g_X48_isCall_fr) (fun r553 D553 => ?_)
  refine fr_ite (fun c556 => ?_) (fun c556 => ?_)
  refine fr_bind (g_X48_isCall_fr) (fun r620 D620 => ?_)
  refine fr_ite (fun c623 => ?_) (fun c623 => ?_)
  refine fr_bind (g_X48_isCall_fr) (fun r673 D673 => ?_)
  refine fr_ite (fun c676 => ?_) (fun c676 => ?_)
  refine fr_bind (g_X48_isCall_fr) (fun r741 D741 => ?_)
  refine fr_ite (fun c744 => ?_) (fun c744 => ?_)
  refine fr_bind (g_X48_isCall_fr) (fun r794 D794 => ?_)
  refine fr_ite (fun c797 => ?_) (fun c797 => ?_)
  refine fr_bind (g_X48_none_fr) (fun r823 D823 => ?_)
  exact fr_some
  refine fr_ite (fun c804 => ?_) (fun c804 => ?_)
  exact fr_some
  refine fr_bind (g_X50_kept_fr) (fun r811 D811 => ?_)
  refine fr_bind (g_X48_flag_fr) (fun r814 D814 => ?_)
  exact fr_some
  refine fr_ite (fun c751 => ?_) (fun c751 => ?_)
  exact fr_some
  refine fr_ck (fun ha763 => ?_)
  refine fr_ck (fun ha770 => ?_)
  refine fr_ck (fun ha777 => ?_)
  refine fr_bind (g_X50_find_fr) (fun r778 D778 => ?_)
  exact fr_some
  refine fr_ite (fun c683 => ?_) (fun c683 => ?_)
  exact fr_some
  refine fr_ck (fun ha695 => ?_)
  refine fr_ck (fun ha702 => ?_)
  refine fr_ck (fun ha709 => ?_)
  refine fr_ck (fun ha716 => ?_)
  refine fr_ck (fun ha722 => ?_)
  refine fr_bind (g_X50_change_fr) (fun r723 D723 => ?_)
  refine fr_bind (g_X48_flag_fr) (fun r726 D726 => ?_)
  exact fr_some
  refine fr_ite (fun c630 => ?_) (fun c630 => ?_)
  exact fr_some
  refine fr_ck (fun ha642 => ?_)
  refine fr_ck (fun ha649 => ?_)
  refine fr_ck (fun ha656 => ?_)
  refine fr_bind (g_X50_purity_fr) (fun r658 D658 => ?_)
  exact fr_some
  refine fr_ite (fun c563 => ?_) (fun c563 => ?_)
  exact fr_some
  refine fr_ck (fun ha575 => ?_)
  refine fr_ck (fun ha582 => ?_)
  refine fr_ck (fun ha589 => ?_)
  refine fr_ck (fun ha596 => ?_)
  refine fr_ck (fun ha603 => ?_)
  refine fr_bind (g_X50_slope_fr) (fun r605 D605 => ?_)
  exact fr_some
  refine fr_ite (fun c523 => ?_) (fun c523 => ?_)
  exact fr_some
  refine fr_ck (fun ha535 => ?_)
  refine fr_bind (g_X50_over_fr) (fun r537 D537 => ?_)
  exact fr_some
  refine fr_ite (fun c469 => ?_) (fun c469 => ?_)
  exact fr_some
  refine fr_ck (fun ha481 => ?_)
  refine fr_ck (fun ha488 => ?_)
  refine fr_ck (fun ha494 => ?_)
  refine fr_bind (g_X50_span_fr) (fun r495 D495 => ?_)
  refine fr_bind (g_X48_flag_fr) (fun r498 D498 => ?_)
  exact fr_some
  refine fr_ite (fun c423 => ?_) (fun c423 => ?_)
  exact fr_some
  refine fr_ck (fun ha435 => ?_)
  refine fr_ck (fun ha442 => ?_)
  refine fr_bind (g_X50_load_fr) (fun r444 D444 => ?_)
  exact fr_some
  refine fr_ite (fun c370 => ?_) (fun c370 => ?_)
  exact fr_some
  refine fr_ck (fun ha382 => ?_)
  refine fr_ck (fun ha389 => ?_)
  refine fr_ck (fun ha396 => ?_)
  refine fr_bind (g_X50_out_fr) (fun r398 D398 => ?_)
  exact fr_some
  refine fr_ite (fun c337 => ?_) (fun c337 => ?_)
  exact fr_some
  refine fr_bind (g_X50_solve_fr) (fun r344 D344 => ?_)
  exact fr_some
  refine fr_ite (fun c282 => ?_) (fun c282 => ?_)
  exact fr_some
  refine fr_ck (fun ha294 => ?_)
  refine fr_ck (fun ha301 => ?_)
  refine fr_ck (fun ha308 => ?_)
  refine fr_bind (g_X50_feed_fr) (fun r309 D309 => ?_)
  refine fr_bind (g_X48_flag_fr) (fun r312 D312 => ?_)
  exact fr_some
  refine fr_ite (fun c214 => ?_) (fun c214 => ?_)
  exact fr_some
  refine fr_ck (fun ha226 => ?_)
  refine fr_ck (fun ha233 => ?_)
  refine fr_ck (fun ha240 => ?_)
  refine fr_ck (fun ha247 => ?_)
  refine fr_ck (fun ha253 => ?_)
  refine fr_bind (g_X50_crush_fr) (fun r254 D254 => ?_)
  refine fr_bind (g_X48_flag_fr) (fun r257 D257 => ?_)
  exact fr_some
  refine fr_ite (fun c146 => ?_) (fun c146 => ?_)
  exact fr_some
  refine fr_ck (fun ha158 => ?_)
  refine fr_ck (fun ha165 => ?_)
  refine fr_ck (fun ha172 => ?_)
  refine fr_ck (fun ha179 => ?_)
  refine fr_ck (fun ha185 => ?_)
  refine fr_bind (g_X50_share_fr) (fun r186 D186 => ?_)
  refine fr_bind (g_X48_flag_fr) (fun r189 D189 => ?_)
  exact fr_some
  refine fr_ite (fun c90 => ?_) (fun c90 => ?_)
  exact fr_some
  refine fr_ck (fun ha102 => ?_)
  refine fr_ck (fun ha109 => ?_)
  refine fr_ck (fun ha116 => ?_)
  refine fr_bind (g_X50_joinOut_fr) (fun r118 D118 => ?_)
  refine fr_bind (g_X48_flag_fr) (fun r121 D121 => ?_)
  exact fr_some
  refine fr_ite (fun c57 => ?_) (fun c57 => ?_)
  exact fr_some
  refine fr_bind (g_X50_port_fr) (fun r64 D64 => ?_)
  exact fr_some
  refine fr_ite (fun c17 => ?_) (fun c17 => ?_)
  exact fr_some
  refine fr_ck (fun ha29 => ?_)
  refine fr_bind (g_X50_machine_fr) (fun r31 D31 => ?_)
  exact fr_some
theorem g_X48_textBegin_fr {D : ga_D} : ga_fr 5144 5342 D (g_X48_textBegin D) := by
  unfold g_X48_textBegin
  refine fr_ck (fun ha5 => ?_)
  refine fr_ite (fun c10 => ?_) (fun c10 => ?_)
  exact fr_some
  refine fr_ck (fun ha18 => ?_)
  exact fr_some
theorem g_X48_hazardsRead_l5_fr  {k37 : ga_D → ga_S} (hk37 : ∀ (D : ga_D), ga_fr 5144 5342 D (k37 D)) : ∀ (n : Nat) (x1 : Int) (D : ga_D), ga_fr 5144 5342 D (g_X48_hazardsRead_l5 n x1 D k37) := by
  intro n
  induction n with
  | zero => intro x1 D; exact fr_none
  | succ n ih =>
    intro x1 D
    show ga_fr 5144 5342 D (if D 5144 20 ≤ x1 then (k37 D) else (ga_ck (0 ≤ x1 ∧ x1 < 8020) (ga_bind (g_X51_unit (aw_and (D 5328 x1) 255) D) (fun r27 D27 => ga_let (aw_w32 (x1 + 1)) (fun v31 => g_X48_hazardsRead_l5 n v31 D27 k37)))))
    refine fr_ite (fun c10 => ?_) (fun c10 => ?_)
    exact hk37 _ 
    refine fr_ck (fun ha22 => ?_)
    refine fr_bind (g_X51_unit_fr) (fun r27 D27 => ?_)
    refine fr_let (fun v31 => ?_)
    exact ih _ _ 
theorem g_X48_hazardsRead_fr {D : ga_D} : ga_fr 5144 5342 D (g_X48_hazardsRead D) := by
  unfold g_X48_hazardsRead
  refine fr_bind (g_X48_textBegin_fr) (fun r1 D1 => ?_)
  refine g_X48_hazardsRead_l5_fr (fun D37 => ?_) _ _ _ 
  refine fr_bind (g_X51_read_fr) (fun r41 D41 => ?_)
  exact fr_some
theorem g_X48_hazards_j227_fr  (s0 : Int) (D : ga_D) : ga_fr 5144 5342 D (g_X48_hazards_j227 s0 D) := by
  unfold g_X48_hazards_j227
  refine fr_bind (g_X51_way_fr) (fun r227 D227 => ?_)
  refine fr_bind (g_X48_flag_fr) (fun r230 D230 => ?_)
  exact fr_some
theorem g_X48_hazards_fr {D : ga_D} : ga_fr 5144 5342 D (g_X48_hazards D) := by
  unfold g_X48_hazards
  refine fr_bind (g_X48_isCall_fr) (fun r5 D5 => ?_)
  refine fr_ite (fun c8 => ?_) (fun c8 => ?_)
  refine fr_bind (g_X48_isCall_fr) (fun r23 D23 => ?_)
  refine fr_ite (fun c26 => ?_) (fun c26 => ?_)
  refine fr_bind (g_X48_isCall_fr) (fun r62 D62 => ?_)
  refine fr_ite (fun c65 => ?_) (fun c65 => ?_)
  refine fr_bind (g_X48_isCall_fr) (fun r116 D116 => ?_)
  refine fr_ite (fun c119 => ?_) (fun c119 => ?_)
  refine fr_bind (g_X48_isCall_fr) (fun r165 D165 => ?_)
  refine fr_ite (fun c168 => ?_) (fun c168 => ?_)
  refine fr_bind (g_X48_isCall_fr) (fun r194 D194 => ?_)
  refine fr_ite (fun c197 => ?_) (fun c197 => ?_)
  refine fr_bind (g_X48_isCall_fr) (fun r245 D245 => ?_)
  refine fr_ite (fun c248 => ?_) (fun c248 => ?_)
  refine fr_bind (g_X48_isCall_fr) (fun r284 D284 => ?_)
  refine fr_ite (fun c287 => ?_) (fun c287 => ?_)
  refine fr_bind (g_X48_isCall_fr) (fun r323 D323 => ?_)
  refine fr_ite (fun c326 => ?_) (fun c326 => ?_)
  refine fr_bind (g_X48_isCall_fr) (fun r363 D363 => ?_)
  refine fr_ite (fun c366 => ?_) (fun c366 => ?_)
  refine fr_bind (g_X48_isCall_fr) (fun r403 D403 => ?_)
  refine fr_ite (fun c406 => ?_) (fun c406 => ?_)
  refine fr_bind (g_X48_isCall_fr) (fun r436 D436 => ?_)
  refine fr_ite (fun c439 => ?_) (fun c439 => ?_)
  refine fr_bind (g_X48_isCall_fr) (fun r483 D483 => ?_)
  refine fr_ite (fun c486 => ?_) (fun c486 => ?_)
  refine fr_bind (g_X48_isCall_fr) (fun r523 D523 => ?_)
  refine fr_ite (fun c526 => ?_) (fun c526 => ?_)
  refine fr_bind (g_X48_isCall_fr) (fun r577 D577 => ?_)
  refine fr_ite (fun c580 => ?_) (fun c580 => ?_)
  refine fr_bind (g_X48_isCall_fr) (fun r616 D616 => ?_)
  refine fr_ite (fun c619 => ?_) (fun c619 => ?_)
  refine fr_bind (g_X48_isCall_fr) (fun r669 D669 => ?_)
  refine fr_ite (fun c672 => ?_) (fun c672 => ?_)
  refine fr_bind (g_X48_isCall_fr) (fun r716 D716 => ?_)
  refine fr_ite (fun c719 => ?_) (fun c719 => ?_)
  refine fr_bind (g_X48_none_fr) (fun r750 D750 => ?_)
  exact fr_some
  refine fr_ite (fun c726 => ?_) (fun c726 => ?_)
  exact fr_some
  refine fr_ck (fun ha738 => ?_)
  refine fr_bind (g_X51_write_fr) (fun r740 D740 => ?_)
  exact fr_some
  refine fr_ite (fun c679 => ?_) (fun c679 => ?_)
  exact fr_some
  refine fr_ck (fun ha691 => ?_)
  refine fr_ck (fun ha698 => ?_)
  refine fr_bind (g_X51_table_fr) (fun r700 D700 => ?_)
  exact fr_some
  refine fr_ite (fun c626 => ?_) (fun c626 => ?_)
  exact fr_some
  refine fr_ck (fun ha638 => ?_)
  refine fr_ck (fun ha645 => ?_)
  refine fr_ck (fun ha652 => ?_)
  refine fr_bind (g_X51_sum_fr) (fun r654 D654 => ?_)
  exact fr_some
  refine fr_ite (fun c587 => ?_) (fun c587 => ?_)
  exact fr_some
  refine fr_ck (fun ha599 => ?_)
  refine fr_bind (g_X51_limit_fr) (fun r601 D601 => ?_)
  exact fr_some
  refine fr_ite (fun c533 => ?_) (fun c533 => ?_)
  exact fr_some
  refine fr_ck (fun ha545 => ?_)
  refine fr_ck (fun ha552 => ?_)
  refine fr_ck (fun ha559 => ?_)
  refine fr_bind (g_X51_explain_fr) (fun r561 D561 => ?_)
  exact fr_some
  refine fr_ite (fun c493 => ?_) (fun c493 => ?_)
  exact fr_some
  refine fr_ck (fun ha505 => ?_)
  refine fr_bind (g_X51_missing_fr) (fun r507 D507 => ?_)
  exact fr_some
  refine fr_ite (fun c446 => ?_) (fun c446 => ?_)
  exact fr_some
  refine fr_ck (fun ha458 => ?_)
  refine fr_ck (fun ha465 => ?_)
  refine fr_bind (g_X51_open_fr) (fun r467 D467 => ?_)
  exact fr_some
  refine fr_ite (fun c413 => ?_) (fun c413 => ?_)
  exact fr_some
  refine fr_bind (g_X51_moving_fr) (fun r420 D420 => ?_)
  exact fr_some
  refine fr_ite (fun c373 => ?_) (fun c373 => ?_)
  exact fr_some
  refine fr_ck (fun ha385 => ?_)
  refine fr_bind (g_X51_mark_fr) (fun r387 D387 => ?_)
  exact fr_some
  refine fr_ite (fun c333 => ?_) (fun c333 => ?_)
  exact fr_some
  refine fr_ck (fun ha345 => ?_)
  refine fr_bind (g_X51_cls_fr) (fun r347 D347 => ?_)
  exact fr_some
  refine fr_ite (fun c294 => ?_) (fun c294 => ?_)
  exact fr_some
  refine fr_ck (fun ha306 => ?_)
  refine fr_bind (g_X51_walk_fr) (fun r307 D307 => ?_)
  exact fr_some
  refine fr_ite (fun c255 => ?_) (fun c255 => ?_)
  exact fr_some
  refine fr_ck (fun ha267 => ?_)
  refine fr_bind (g_X51_run_fr) (fun r268 D268 => ?_)
  exact fr_some
  refine fr_ite (fun c204 => ?_) (fun c204 => ?_)
  exact fr_some
  refine fr_ck (fun ha216 => ?_)
  refine fr_ite (fun c219 => ?_) (fun c219 => ?_)
  refine g_X48_hazards_j227_fr _ _ 
  refine g_X48_hazards_j227_fr _ _ 
  refine fr_ite (fun c175 => ?_) (fun c175 => ?_)
  exact fr_some
  refine fr_bind (g_X51_clearParts_fr) (fun r182 D182 => ?_)
  exact fr_some
  refine fr_ite (fun c126 => ?_) (fun c126 => ?_)
  exact fr_some
  refine fr_ck (fun ha138 => ?_)
  refine fr_ck (fun ha145 => ?_)
  refine fr_bind (g_X51_test_fr) (fun r147 D147 => ?_)
  refine fr_bind (g_X48_flag_fr) (fun r150 D150 => ?_)
  exact fr_some
  refine fr_ite (fun c72 => ?_) (fun c72 => ?_)
  exact fr_some
  refine fr_ck (fun ha84 => ?_)
  refine fr_ck (fun ha91 => ?_)
  refine fr_ck (fun ha97 => ?_)
  refine fr_bind (g_X51_part_fr) (fun r98 D98 => ?_)
  refine fr_bind (g_X48_flag_fr) (fun r101 D101 => ?_)
  exact fr_some
  refine fr_ite (fun c33 => ?_) (fun c33 => ?_)
  exact fr_some
  refine fr_ck (fun ha45 => ?_)
  refine fr_bind (g_X51_edition_fr) (fun r46 D46 => ?_)
  exact fr_some
  refine fr_bind (g_X48_hazardsRead_fr) (fun r12 D12 => ?_)
  exact fr_some
theorem g_X48_rounds_j217_fr  (s0 s1 s2 : Int) (D : ga_D) : ga_fr 5144 5342 D (g_X48_rounds_j217 s0 s1 s2 D) := by
  unfold g_X48_rounds_j217
  refine fr_bind (g_X52_branch_fr) (fun r217 D217 => ?_)
  refine fr_bind (g_X48_flag_fr) (fun r220 D220 => ?_)
  exact fr_some
theorem g_X48_rounds_fr {D : ga_D} : ga_fr 5144 5342 D (g_X48_rounds D) := by
  unfold g_X48_rounds
  refine fr_bind (g_X48_isCall_fr) (fun r7 D7 => ?_)
  refine fr_ite (fun c10 => ?_) (fun c10 => ?_)
  refine fr_bind (g_X48_isCall_fr) (fun r53 D53 => ?_)
  refine fr_ite (fun c56 => ?_) (fun c56 => ?_)
  refine fr_bind (g_X48_isCall_fr) (fun r115 D115 => ?_)
  refine fr_ite (fun c118 => ?_) (fun c118 => ?_)
  refine fr_bind (g_X48_isCall_fr) (fun r170 D170 => ?_)
  refine fr_ite (fun c173 => ?_) (fun c173 => ?_)
  refine fr_bind (g_X48_isCall_fr) (fun r235 D235 => ?_)
  refine fr_ite (fun c238 => ?_) (fun c238 => ?_)
  refine fr_bind (g_X48_isCall_fr) (fun r264 D264 => ?_)
  refine fr_ite (fun c267 => ?_) (fun c267 => ?_)
  refine fr_bind (g_X48_isCall_fr) (fun r304 D304 => ?_)
  refine fr_ite (fun c307 => ?_) (fun c307 => ?_)
  refine fr_bind (g_X48_isCall_fr) (fun r337 D337 => ?_)
  refine fr_ite (fun c340 => ?_) (fun c340 => ?_)
  refine fr_bind (g_X48_isCall_fr) (fun r370 D370 => ?_)
  refine fr_ite (fun c373 => ?_) (fun c373 => ?_)
  refine fr_bind (g_X48_isCall_fr) (fun r417 D417 => ?_)
  refine fr_ite (fun c420 => ?_) (fun c420 => ?_)
  refine fr_bind (g_X48_isCall_fr) (fun r456 D456 => ?_)
  refine fr_ite (fun c459 => ?_) (fun c459 => ?_)
  refine fr_bind (g_X48_isCall_fr) (fun r502 D502 => ?_)
  refine fr_ite (fun c505 => ?_) (fun c505 => ?_)
  refine fr_bind (g_X48_isCall_fr) (fun r548 D548 => ?_)
  refine fr_ite (fun c551 => ?_) (fun c551 => ?_)
  refine fr_bind (g_X48_isCall_fr) (fun r594 D594 => ?_)
  refine fr_ite (fun c597 => ?_) (fun c597 => ?_)
  refine fr_bind (g_X48_isCall_fr) (fun r636 D636 => ?_)
  refine fr_ite (fun c639 => ?_) (fun c639 => ?_)
  refine fr_bind (g_X48_isCall_fr) (fun r669 D669 => ?_)
  refine fr_ite (fun c672 => ?_) (fun c672 => ?_)
  refine fr_bind (g_X48_isCall_fr) (fun r716 D716 => ?_)
  refine fr_ite (fun c719 => ?_) (fun c719 => ?_)
  refine fr_bind (g_X48_isCall_fr) (fun r749 D749 => ?_)
  refine fr_ite (fun c752 => ?_) (fun c752 => ?_)
  refine fr_bind (g_X48_none_fr) (fun r778 D778 => ?_)
  exact fr_some
  refine fr_ite (fun c759 => ?_) (fun c759 => ?_)
  exact fr_some
  refine fr_bind (g_X52_labelsClosed_fr) (fun r766 D766 => ?_)
  refine fr_bind (g_X48_flag_fr) (fun r769 D769 => ?_)
  exact fr_some
  refine fr_ite (fun c726 => ?_) (fun c726 => ?_)
  exact fr_some
  refine fr_bind (g_X52_check_fr) (fun r733 D733 => ?_)
  exact fr_some
  refine fr_ite (fun c679 => ?_) (fun c679 => ?_)
  exact fr_some
  refine fr_ck (fun ha691 => ?_)
  refine fr_ck (fun ha698 => ?_)
  refine fr_bind (g_X52_cut_fr) (fun r700 D700 => ?_)
  exact fr_some
  refine fr_ite (fun c646 => ?_) (fun c646 => ?_)
  exact fr_some
  refine fr_bind (g_X52_cuts_fr) (fun r653 D653 => ?_)
  exact fr_some
  refine fr_ite (fun c604 => ?_) (fun c604 => ?_)
  exact fr_some
  refine fr_ck (fun ha616 => ?_)
  refine fr_bind (g_X52_dropped_fr) (fun r618 D618 => ?_)
  refine fr_bind (g_X48_flag_fr) (fun r621 D621 => ?_)
  exact fr_some
  refine fr_ite (fun c558 => ?_) (fun c558 => ?_)
  exact fr_some
  refine fr_ck (fun ha570 => ?_)
  refine fr_ck (fun ha577 => ?_)
  refine fr_bind (g_X52_share_fr) (fun r579 D579 => ?_)
  exact fr_some
  refine fr_ite (fun c512 => ?_) (fun c512 => ?_)
  exact fr_some
  refine fr_ck (fun ha524 => ?_)
  refine fr_ck (fun ha531 => ?_)
  refine fr_bind (g_X52_used_fr) (fun r533 D533 => ?_)
  exact fr_some
  refine fr_ite (fun c466 => ?_) (fun c466 => ?_)
  exact fr_some
  refine fr_ck (fun ha478 => ?_)
  refine fr_ck (fun ha485 => ?_)
  refine fr_bind (g_X52_dual_fr) (fun r487 D487 => ?_)
  exact fr_some
  refine fr_ite (fun c427 => ?_) (fun c427 => ?_)
  exact fr_some
  refine fr_ck (fun ha439 => ?_)
  refine fr_bind (g_X52_bound_fr) (fun r441 D441 => ?_)
  exact fr_some
  refine fr_ite (fun c380 => ?_) (fun c380 => ?_)
  exact fr_some
  refine fr_ck (fun ha392 => ?_)
  refine fr_ck (fun ha399 => ?_)
  refine fr_bind (g_X52_column_fr) (fun r401 D401 => ?_)
  exact fr_some
  refine fr_ite (fun c347 => ?_) (fun c347 => ?_)
  exact fr_some
  refine fr_bind (g_X52_columns_fr) (fun r354 D354 => ?_)
  exact fr_some
  refine fr_ite (fun c314 => ?_) (fun c314 => ?_)
  exact fr_some
  refine fr_bind (g_X52_steps_fr) (fun r321 D321 => ?_)
  exact fr_some
  refine fr_ite (fun c274 => ?_) (fun c274 => ?_)
  exact fr_some
  refine fr_ck (fun ha286 => ?_)
  refine fr_bind (g_X52_run_fr) (fun r288 D288 => ?_)
  exact fr_some
  refine fr_ite (fun c245 => ?_) (fun c245 => ?_)
  exact fr_some
  refine fr_bind (g_X52_clear_fr) (fun r252 D252 => ?_)
  exact fr_some
  refine fr_ite (fun c180 => ?_) (fun c180 => ?_)
  exact fr_some
  refine fr_ck (fun ha192 => ?_)
  refine fr_ck (fun ha199 => ?_)
  refine fr_ck (fun ha206 => ?_)
  refine fr_ite (fun c209 => ?_) (fun c209 => ?_)
  refine g_X48_rounds_j217_fr _ _ _ _ 
  refine g_X48_rounds_j217_fr _ _ _ _ 
  refine fr_ite (fun c125 => ?_) (fun c125 => ?_)
  exact fr_some
  refine fr_ck (fun ha137 => ?_)
  refine fr_ck (fun ha143 => ?_)
  refine fr_ck (fun ha150 => ?_)
  refine fr_bind (g_X52_vehicle_fr) (fun r152 D152 => ?_)
  refine fr_bind (g_X48_flag_fr) (fun r155 D155 => ?_)
  exact fr_some
  refine fr_ite (fun c63 => ?_) (fun c63 => ?_)
  exact fr_some
  refine fr_ck (fun ha75 => ?_)
  refine fr_ck (fun ha82 => ?_)
  refine fr_ck (fun ha89 => ?_)
  refine fr_ck (fun ha96 => ?_)
  refine fr_bind (g_X52_way_fr) (fun r97 D97 => ?_)
  refine fr_bind (g_X48_flag_fr) (fun r100 D100 => ?_)
  exact fr_some
  refine fr_ite (fun c17 => ?_) (fun c17 => ?_)
  exact fr_some
  refine fr_ck (fun ha29 => ?_)
  refine fr_ck (fun ha35 => ?_)
  refine fr_bind (g_X52_bin_fr) (fun r37 D37 => ?_)
  exact fr_some
theorem g_X48_store_fr {D : ga_D} : ga_fr 5144 5342 D (g_X48_store D) := by
  unfold g_X48_store
  refine fr_bind (g_X48_isCall_fr) (fun r7 D7 => ?_)
  refine fr_ite (fun c10 => ?_) (fun c10 => ?_)
  refine fr_bind (g_X48_isCall_fr) (fun r63 D63 => ?_)
  refine fr_ite (fun c66 => ?_) (fun c66 => ?_)
  refine fr_bind (g_X48_isCall_fr) (fun r111 D111 => ?_)
  refine fr_ite (fun c114 => ?_) (fun c114 => ?_)
  refine fr_bind (g_X48_isCall_fr) (fun r162 D162 => ?_)
  refine fr_ite (fun c165 => ?_) (fun c165 => ?_)
  refine fr_bind (g_X48_isCall_fr) (fun r214 D214 => ?_)
  refine fr_ite (fun c217 => ?_) (fun c217 => ?_)
  refine fr_bind (g_X48_isCall_fr) (fun r261 D261 => ?_)
  refine fr_ite (fun c264 => ?_) (fun c264 => ?_)
  refine fr_bind (g_X48_isCall_fr) (fun r301 D301 => ?_)
  refine fr_ite (fun c304 => ?_) (fun c304 => ?_)
  refine fr_bind (g_X48_isCall_fr) (fun r341 D341 => ?_)
  refine fr_ite (fun c344 => ?_) (fun c344 => ?_)
  refine fr_bind (g_X48_isCall_fr) (fun r388 D388 => ?_)
  refine fr_ite (fun c391 => ?_) (fun c391 => ?_)
  refine fr_bind (g_X48_isCall_fr) (fun r435 D435 => ?_)
  refine fr_ite (fun c438 => ?_) (fun c438 => ?_)
  refine fr_bind (g_X48_isCall_fr) (fun r481 D481 => ?_)
  refine fr_ite (fun c484 => ?_) (fun c484 => ?_)
  refine fr_bind (g_X48_isCall_fr) (fun r539 D539 => ?_)
  refine fr_ite (fun c542 => ?_) (fun c542 => ?_)
  refine fr_bind (g_X48_isCall_fr) (fun r586 D586 => ?_)
  refine fr_ite (fun c589 => ?_) (fun c589 => ?_)
  refine fr_bind (g_X48_isCall_fr) (fun r635 D635 => ?_)
  refine fr_ite (fun c638 => ?_) (fun c638 => ?_)
  refine fr_bind (g_X48_isCall_fr) (fun r684 D684 => ?_)
  refine fr_ite (fun c687 => ?_) (fun c687 => ?_)
  refine fr_bind (g_X48_isCall_fr) (fun r724 D724 => ?_)
  refine fr_ite (fun c727 => ?_) (fun c727 => ?_)
  refine fr_bind (g_X48_isCall_fr) (fun r771 D771 => ?_)
  refine fr_ite (fun c774 => ?_) (fun c774 => ?_)
  refine fr_bind (g_X48_isCall_fr) (fun r817 D817 => ?_)
  refine fr_ite (fun c820 => ?_) (fun c820 => ?_)
  refine fr_bind (g_X48_none_fr) (fun r846 D846 => ?_)
  exact fr_some
  refine fr_ite (fun c827 => ?_) (fun c827 => ?_)
  exact fr_some
  refine fr_bind (g_X53_kept_fr) (fun r834 D834 => ?_)
  refine fr_bind (g_X48_flag_fr) (fun r837 D837 => ?_)
  exact fr_some
  refine fr_ite (fun c781 => ?_) (fun c781 => ?_)
  exact fr_some
  refine fr_ck (fun ha793 => ?_)
  refine fr_ck (fun ha800 => ?_)
  refine fr_bind (g_X53_inspect_fr) (fun r801 D801 => ?_)
  exact fr_some
  refine fr_ite (fun c734 => ?_) (fun c734 => ?_)
  exact fr_some
  refine fr_ck (fun ha746 => ?_)
  refine fr_ck (fun ha753 => ?_)
  refine fr_bind (g_X53_drill_fr) (fun r755 D755 => ?_)
  exact fr_some
  refine fr_ite (fun c694 => ?_) (fun c694 => ?_)
  exact fr_some
  refine fr_ck (fun ha706 => ?_)
  refine fr_bind (g_X53_first_fr) (fun r708 D708 => ?_)
  exact fr_some
  refine fr_ite (fun c645 => ?_) (fun c645 => ?_)
  exact fr_some
  refine fr_ck (fun ha657 => ?_)
  refine fr_ck (fun ha664 => ?_)
  refine fr_bind (g_X53_open_fr) (fun r666 D666 => ?_)
  refine fr_bind (g_X48_flag_fr) (fun r669 D669 => ?_)
  exact fr_some
  refine fr_ite (fun c596 => ?_) (fun c596 => ?_)
  exact fr_some
  refine fr_ck (fun ha608 => ?_)
  refine fr_ck (fun ha615 => ?_)
  refine fr_bind (g_X53_key_fr) (fun r617 D617 => ?_)
  refine fr_bind (g_X48_flag_fr) (fun r620 D620 => ?_)
  exact fr_some
  refine fr_ite (fun c549 => ?_) (fun c549 => ?_)
  exact fr_some
  refine fr_ck (fun ha561 => ?_)
  refine fr_ck (fun ha568 => ?_)
  refine fr_bind (g_X53_mix_fr) (fun r570 D570 => ?_)
  exact fr_some
  refine fr_ite (fun c491 => ?_) (fun c491 => ?_)
  exact fr_some
  refine fr_ck (fun ha503 => ?_)
  refine fr_ck (fun ha510 => ?_)
  refine fr_ck (fun ha517 => ?_)
  refine fr_bind (g_X53_trial_fr) (fun r523 D523 => ?_)
  exact fr_some
  refine fr_ite (fun c445 => ?_) (fun c445 => ?_)
  exact fr_some
  refine fr_ck (fun ha457 => ?_)
  refine fr_ck (fun ha464 => ?_)
  refine fr_bind (g_X53_basin_fr) (fun r466 D466 => ?_)
  exact fr_some
  refine fr_ite (fun c398 => ?_) (fun c398 => ?_)
  exact fr_some
  refine fr_ck (fun ha410 => ?_)
  refine fr_ck (fun ha417 => ?_)
  refine fr_bind (g_X53_step_fr) (fun r419 D419 => ?_)
  exact fr_some
  refine fr_ite (fun c351 => ?_) (fun c351 => ?_)
  exact fr_some
  refine fr_ck (fun ha363 => ?_)
  refine fr_ck (fun ha370 => ?_)
  refine fr_bind (g_X53_moves_fr) (fun r372 D372 => ?_)
  exact fr_some
  refine fr_ite (fun c311 => ?_) (fun c311 => ?_)
  exact fr_some
  refine fr_ck (fun ha323 => ?_)
  refine fr_bind (g_X53_plan_fr) (fun r325 D325 => ?_)
  exact fr_some
  refine fr_ite (fun c271 => ?_) (fun c271 => ?_)
  exact fr_some
  refine fr_ck (fun ha283 => ?_)
  refine fr_bind (g_X53_placeOf_fr) (fun r285 D285 => ?_)
  exact fr_some
  refine fr_ite (fun c224 => ?_) (fun c224 => ?_)
  exact fr_some
  refine fr_ck (fun ha236 => ?_)
  refine fr_ck (fun ha243 => ?_)
  refine fr_bind (g_X53_put_fr) (fun r245 D245 => ?_)
  exact fr_some
  refine fr_ite (fun c172 => ?_) (fun c172 => ?_)
  exact fr_some
  refine fr_ck (fun ha184 => ?_)
  refine fr_ck (fun ha191 => ?_)
  refine fr_ck (fun ha197 => ?_)
  refine fr_bind (g_X53_load_fr) (fun r198 D198 => ?_)
  exact fr_some
  refine fr_ite (fun c121 => ?_) (fun c121 => ?_)
  exact fr_some
  refine fr_ck (fun ha133 => ?_)
  refine fr_ck (fun ha139 => ?_)
  refine fr_ck (fun ha145 => ?_)
  refine fr_bind (g_X53_place_fr) (fun r146 D146 => ?_)
  exact fr_some
  refine fr_ite (fun c73 => ?_) (fun c73 => ?_)
  exact fr_some
  refine fr_ck (fun ha85 => ?_)
  refine fr_ck (fun ha92 => ?_)
  refine fr_bind (g_X53_most_fr) (fun r93 D93 => ?_)
  refine fr_bind (g_X48_flag_fr) (fun r96 D96 => ?_)
  exact fr_some
  refine fr_ite (fun c17 => ?_) (fun c17 => ?_)
  exact fr_some
  refine fr_ck (fun ha29 => ?_)
  refine fr_ck (fun ha36 => ?_)
  refine fr_ck (fun ha43 => ?_)
  refine fr_bind (g_X53_bar_fr) (fun r45 D45 => ?_)
  refine fr_bind (g_X48_flag_fr) (fun r48 D48 => ?_)
  exact fr_some
theorem g_X48_productRead_l5_fr  {k37 : ga_D → ga_S} (hk37 : ∀ (D : ga_D), ga_fr 5144 5342 D (k37 D)) : ∀ (n : Nat) (x1 : Int) (D : ga_D), ga_fr 5144 5342 D (g_X48_productRead_l5 n x1 D k37) := by
  intro n
  induction n with
  | zero => intro x1 D; exact fr_none
  | succ n ih =>
    intro x1 D
    show ga_fr 5144 5342 D (if D 5144 20 ≤ x1 then (k37 D) else (ga_ck (0 ≤ x1 ∧ x1 < 8020) (ga_bind (g_X54_unit (aw_and (D 5328 x1) 255) D) (fun r27 D27 => ga_let (aw_w32 (x1 + 1)) (fun v31 => g_X48_productRead_l5 n v31 D27 k37)))))
    refine fr_ite (fun c10 => ?_) (fun c10 => ?_)
    exact hk37 _ 
    refine fr_ck (fun ha22 => ?_)
    refine fr_bind (g_X54_unit_fr) (fun r27 D27 => ?_)
    refine fr_let (fun v31 => ?_)
    exact ih _ _ 
theorem g_X48_productRead_fr {D : ga_D} : ga_fr 5144 5342 D (g_X48_productRead D) := by
  unfold g_X48_productRead
  refine fr_bind (g_X48_textBegin_fr) (fun r1 D1 => ?_)
  refine g_X48_productRead_l5_fr (fun D37 => ?_) _ _ _ 
  refine fr_bind (g_X54_read_fr) (fun r41 D41 => ?_)
  exact fr_some
theorem g_X48_product_fr {D : ga_D} : ga_fr 5144 5342 D (g_X48_product D) := by
  unfold g_X48_product
  refine fr_bind (g_X48_isCall_fr) (fun r5 D5 => ?_)
  refine fr_ite (fun c8 => ?_) (fun c8 => ?_)
  refine fr_bind (g_X48_isCall_fr) (fun r23 D23 => ?_)
  refine fr_ite (fun c26 => ?_) (fun c26 => ?_)
  refine fr_bind (g_X48_isCall_fr) (fun r69 D69 => ?_)
  refine fr_ite (fun c72 => ?_) (fun c72 => ?_)
  refine fr_bind (g_X48_isCall_fr) (fun r123 D123 => ?_)
  refine fr_ite (fun c126 => ?_) (fun c126 => ?_)
  refine fr_bind (g_X48_isCall_fr) (fun r172 D172 => ?_)
  refine fr_ite (fun c175 => ?_) (fun c175 => ?_)
  refine fr_bind (g_X48_isCall_fr) (fun r228 D228 => ?_)
  refine fr_ite (fun c231 => ?_) (fun c231 => ?_)
  refine fr_bind (g_X48_isCall_fr) (fun r275 D275 => ?_)
  refine fr_ite (fun c278 => ?_) (fun c278 => ?_)
  refine fr_bind (g_X48_isCall_fr) (fun r315 D315 => ?_)
  refine fr_ite (fun c318 => ?_) (fun c318 => ?_)
  refine fr_bind (g_X48_isCall_fr) (fun r364 D364 => ?_)
  refine fr_ite (fun c367 => ?_) (fun c367 => ?_)
  refine fr_bind (g_X48_isCall_fr) (fun r411 D411 => ?_)
  refine fr_ite (fun c414 => ?_) (fun c414 => ?_)
  refine fr_bind (g_X48_isCall_fr) (fun r467 D467 => ?_)
  refine fr_ite (fun c470 => ?_) (fun c470 => ?_)
  refine fr_bind (g_X48_isCall_fr) (fun r514 D514 => ?_)
  refine fr_ite (fun c517 => ?_) (fun c517 => ?_)
  refine fr_bind (g_X48_isCall_fr) (fun r553 D553 => ?_)
  refine fr_ite (fun c556 => ?_) (fun c556 => ?_)
  refine fr_bind (g_X48_isCall_fr) (fun r602 D602 => ?_)
  refine fr_ite (fun c605 => ?_) (fun c605 => ?_)
  refine fr_bind (g_X48_isCall_fr) (fun r649 D649 => ?_)
  refine fr_ite (fun c652 => ?_) (fun c652 => ?_)
  refine fr_bind (g_X48_isCall_fr) (fun r697 D697 => ?_)
  refine fr_ite (fun c700 => ?_) (fun c700 => ?_)
  refine fr_bind (g_X48_isCall_fr) (fun r745 D745 => ?_)
  refine fr_ite (fun c748 => ?_) (fun c748 => ?_)
  refine fr_bind (g_X48_isCall_fr) (fun r785 D785 => ?_)
  refine fr_ite (fun c788 => ?_) (fun c788 => ?_)
  refine fr_bind (g_X48_none_fr) (fun r812 D812 => ?_)
  exact fr_some
  refine fr_ite (fun c795 => ?_) (fun c795 => ?_)
  exact fr_some
  refine fr_bind (g_X54_loose_fr) (fun r802 D802 => ?_)
  exact fr_some
  refine fr_ite (fun c755 => ?_) (fun c755 => ?_)
  exact fr_some
  refine fr_ck (fun ha767 => ?_)
  refine fr_bind (g_X54_write_fr) (fun r769 D769 => ?_)
  exact fr_some
  refine fr_ite (fun c707 => ?_) (fun c707 => ?_)
  exact fr_some
  refine fr_ck (fun ha719 => ?_)
  refine fr_ck (fun ha726 => ?_)
  refine fr_bind (g_X54_plain_fr) (fun r727 D727 => ?_)
  refine fr_bind (g_X48_flag_fr) (fun r730 D730 => ?_)
  exact fr_some
  refine fr_ite (fun c659 => ?_) (fun c659 => ?_)
  exact fr_some
  refine fr_ck (fun ha671 => ?_)
  refine fr_ck (fun ha678 => ?_)
  refine fr_bind (g_X54_free_fr) (fun r679 D679 => ?_)
  refine fr_bind (g_X48_flag_fr) (fun r682 D682 => ?_)
  exact fr_some
  refine fr_ite (fun c612 => ?_) (fun c612 => ?_)
  exact fr_some
  refine fr_ck (fun ha624 => ?_)
  refine fr_ck (fun ha631 => ?_)
  refine fr_bind (g_X54_damage_fr) (fun r633 D633 => ?_)
  exact fr_some
  refine fr_ite (fun c563 => ?_) (fun c563 => ?_)
  exact fr_some
  refine fr_ck (fun ha575 => ?_)
  refine fr_ck (fun ha582 => ?_)
  refine fr_bind (g_X54_hazard_fr) (fun r584 D584 => ?_)
  refine fr_bind (g_X48_flag_fr) (fun r587 D587 => ?_)
  exact fr_some
  refine fr_ite (fun c524 => ?_) (fun c524 => ?_)
  exact fr_some
  refine fr_ck (fun ha536 => ?_)
  refine fr_bind (g_X54_weight_fr) (fun r538 D538 => ?_)
  exact fr_some
  refine fr_ite (fun c477 => ?_) (fun c477 => ?_)
  exact fr_some
  refine fr_ck (fun ha489 => ?_)
  refine fr_ck (fun ha496 => ?_)
  refine fr_bind (g_X54_alike_fr) (fun r498 D498 => ?_)
  exact fr_some
  refine fr_ite (fun c421 => ?_) (fun c421 => ?_)
  exact fr_some
  refine fr_ck (fun ha433 => ?_)
  refine fr_ck (fun ha440 => ?_)
  refine fr_ck (fun ha447 => ?_)
  refine fr_bind (g_X54_holds_fr) (fun r449 D449 => ?_)
  refine fr_bind (g_X48_flag_fr) (fun r452 D452 => ?_)
  exact fr_some
  refine fr_ite (fun c374 => ?_) (fun c374 => ?_)
  exact fr_some
  refine fr_ck (fun ha386 => ?_)
  refine fr_ck (fun ha393 => ?_)
  refine fr_bind (g_X54_family_fr) (fun r395 D395 => ?_)
  exact fr_some
  refine fr_ite (fun c325 => ?_) (fun c325 => ?_)
  exact fr_some
  refine fr_ck (fun ha337 => ?_)
  refine fr_ck (fun ha344 => ?_)
  refine fr_bind (g_X54_option_fr) (fun r346 D346 => ?_)
  refine fr_bind (g_X48_flag_fr) (fun r349 D349 => ?_)
  exact fr_some
  refine fr_ite (fun c285 => ?_) (fun c285 => ?_)
  exact fr_some
  refine fr_ck (fun ha297 => ?_)
  refine fr_bind (g_X54_ring_fr) (fun r299 D299 => ?_)
  exact fr_some
  refine fr_ite (fun c238 => ?_) (fun c238 => ?_)
  exact fr_some
  refine fr_ck (fun ha250 => ?_)
  refine fr_ck (fun ha257 => ?_)
  refine fr_bind (g_X54_before_fr) (fun r259 D259 => ?_)
  exact fr_some
  refine fr_ite (fun c182 => ?_) (fun c182 => ?_)
  exact fr_some
  refine fr_ck (fun ha194 => ?_)
  refine fr_ck (fun ha201 => ?_)
  refine fr_ck (fun ha208 => ?_)
  refine fr_bind (g_X54_way_fr) (fun r210 D210 => ?_)
  refine fr_bind (g_X48_flag_fr) (fun r213 D213 => ?_)
  exact fr_some
  refine fr_ite (fun c133 => ?_) (fun c133 => ?_)
  exact fr_some
  refine fr_ck (fun ha145 => ?_)
  refine fr_ck (fun ha152 => ?_)
  refine fr_bind (g_X54_cover_fr) (fun r154 D154 => ?_)
  refine fr_bind (g_X48_flag_fr) (fun r157 D157 => ?_)
  exact fr_some
  refine fr_ite (fun c79 => ?_) (fun c79 => ?_)
  exact fr_some
  refine fr_ck (fun ha91 => ?_)
  refine fr_ck (fun ha98 => ?_)
  refine fr_ck (fun ha105 => ?_)
  refine fr_bind (g_X54_fasten_fr) (fun r107 D107 => ?_)
  exact fr_some
  refine fr_ite (fun c33 => ?_) (fun c33 => ?_)
  exact fr_some
  refine fr_ck (fun ha45 => ?_)
  refine fr_ck (fun ha52 => ?_)
  refine fr_bind (g_X54_part_fr) (fun r53 D53 => ?_)
  exact fr_some
  refine fr_bind (g_X48_productRead_fr) (fun r12 D12 => ?_)
  exact fr_some
theorem g_X48_apart_fr {D : ga_D} : ga_fr 5144 5342 D (g_X48_apart D) := by
  unfold g_X48_apart
  refine fr_bind (g_X48_isCall_fr) (fun r7 D7 => ?_)
  refine fr_ite (fun c10 => ?_) (fun c10 => ?_)
  refine fr_bind (g_X48_isCall_fr) (fun r67 D67 => ?_)
  refine fr_ite (fun c70 => ?_) (fun c70 => ?_)
  refine fr_bind (g_X48_isCall_fr) (fun r116 D116 => ?_)
  refine fr_ite (fun c119 => ?_) (fun c119 => ?_)
  refine fr_bind (g_X48_isCall_fr) (fun r171 D171 => ?_)
  refine fr_ite (fun c174 => ?_) (fun c174 => ?_)
  refine fr_bind (g_X48_isCall_fr) (fun r226 D226 => ?_)
  refine fr_ite (fun c229 => ?_) (fun c229 => ?_)
  refine fr_bind (g_X48_isCall_fr) (fun r274 D274 => ?_)
  refine fr_ite (fun c277 => ?_) (fun c277 => ?_)
  refine fr_bind (g_X48_isCall_fr) (fun r321 D321 => ?_)
  refine fr_ite (fun c324 => ?_) (fun c324 => ?_)
  refine fr_bind (g_X48_isCall_fr) (fun r363 D363 => ?_)
  refine fr_ite (fun c366 => ?_) (fun c366 => ?_)
  refine fr_bind (g_X48_isCall_fr) (fun r417 D417 => ?_)
  refine fr_ite (fun c420 => ?_) (fun c420 => ?_)
  refine fr_bind (g_X48_isCall_fr) (fun r449 D449 => ?_)
  refine fr_ite (fun c452 => ?_) (fun c452 => ?_)
  refine fr_bind (g_X48_isCall_fr) (fun r488 D488 => ?_)
  refine fr_ite (fun c491 => ?_) (fun c491 => ?_)
  refine fr_bind (g_X48_isCall_fr) (fun r528 D528 => ?_)
  refine fr_ite (fun c531 => ?_) (fun c531 => ?_)
  refine fr_bind (g_X48_isCall_fr) (fun r568 D568 => ?_)
  refine fr_ite (fun c571 => ?_) (fun c571 => ?_)
  refine fr_bind (g_X48_isCall_fr) (fun r608 D608 => ?_)
  refine fr_ite (fun c611 => ?_) (fun c611 => ?_)
  refine fr_bind (g_X48_isCall_fr) (fun r647 D647 => ?_)
  refine fr_ite (fun c650 => ?_) (fun c650 => ?_)
  refine fr_bind (g_X48_isCall_fr) (fun r682 D682 => ?_)
  refine fr_ite (fun c685 => ?_) (fun c685 => ?_)
  refine fr_bind (g_X48_isCall_fr) (fun r714 D714 => ?_)
  refine fr_ite (fun c717 => ?_) (fun c717 => ?_)
  refine fr_bind (g_X48_isCall_fr) (fun r760 D760 => ?_)
  refine fr_ite (fun c763 => ?_) (fun c763 => ?_)
  refine fr_bind (g_X48_isCall_fr) (fun r800 D800 => ?_)
  refine fr_ite (fun c803 => ?_) (fun c803 => ?_)
  refine fr_bind (g_X48_none_fr) (fun r834 D834 => ?_)
  exact fr_some
  refine fr_ite (fun c810 => ?_) (fun c810 => ?_)
  exact fr_some
  refine fr_ck (fun ha822 => ?_)
  refine fr_bind (g_X55_station_fr) (fun r824 D824 => ?_)
  exact fr_some
  refine fr_ite (fun c770 => ?_) (fun c770 => ?_)
  exact fr_some
  refine fr_ck (fun ha782 => ?_)
  refine fr_bind (g_X55_stations_fr) (fun r784 D784 => ?_)
  exact fr_some
  refine fr_ite (fun c724 => ?_) (fun c724 => ?_)
  exact fr_some
  refine fr_ck (fun ha736 => ?_)
  refine fr_ck (fun ha743 => ?_)
  refine fr_bind (g_X55_test_fr) (fun r744 D744 => ?_)
  exact fr_some
  refine fr_ite (fun c692 => ?_) (fun c692 => ?_)
  exact fr_some
  refine fr_bind (g_X55_bound_fr) (fun r699 D699 => ?_)
  exact fr_some
  refine fr_ite (fun c657 => ?_) (fun c657 => ?_)
  exact fr_some
  refine fr_bind (g_X55_proved_fr) (fun r664 D664 => ?_)
  refine fr_bind (g_X48_flag_fr) (fun r667 D667 => ?_)
  exact fr_some
  refine fr_ite (fun c618 => ?_) (fun c618 => ?_)
  exact fr_some
  refine fr_ck (fun ha630 => ?_)
  refine fr_bind (g_X55_gain_fr) (fun r632 D632 => ?_)
  exact fr_some
  refine fr_ite (fun c578 => ?_) (fun c578 => ?_)
  exact fr_some
  refine fr_ck (fun ha590 => ?_)
  refine fr_bind (g_X55_other_fr) (fun r592 D592 => ?_)
  exact fr_some
  refine fr_ite (fun c538 => ?_) (fun c538 => ?_)
  exact fr_some
  refine fr_ck (fun ha550 => ?_)
  refine fr_bind (g_X55_stops_fr) (fun r552 D552 => ?_)
  exact fr_some
  refine fr_ite (fun c498 => ?_) (fun c498 => ?_)
  exact fr_some
  refine fr_ck (fun ha510 => ?_)
  refine fr_bind (g_X55_step_fr) (fun r512 D512 => ?_)
  exact fr_some
  refine fr_ite (fun c459 => ?_) (fun c459 => ?_)
  exact fr_some
  refine fr_ck (fun ha471 => ?_)
  refine fr_bind (g_X55_run_fr) (fun r472 D472 => ?_)
  exact fr_some
  refine fr_ite (fun c427 => ?_) (fun c427 => ?_)
  exact fr_some
  refine fr_bind (g_X55_states_fr) (fun r434 D434 => ?_)
  exact fr_some
  refine fr_ite (fun c373 => ?_) (fun c373 => ?_)
  exact fr_some
  refine fr_ck (fun ha385 => ?_)
  refine fr_ck (fun ha392 => ?_)
  refine fr_ck (fun ha398 => ?_)
  refine fr_bind (g_X55_sure_fr) (fun r399 D399 => ?_)
  refine fr_bind (g_X48_flag_fr) (fun r402 D402 => ?_)
  exact fr_some
  refine fr_ite (fun c331 => ?_) (fun c331 => ?_)
  exact fr_some
  refine fr_ck (fun ha343 => ?_)
  refine fr_bind (g_X55_breaks_fr) (fun r345 D345 => ?_)
  refine fr_bind (g_X48_flag_fr) (fun r348 D348 => ?_)
  exact fr_some
  refine fr_ite (fun c284 => ?_) (fun c284 => ?_)
  exact fr_some
  refine fr_ck (fun ha296 => ?_)
  refine fr_ck (fun ha302 => ?_)
  refine fr_bind (g_X55_rest_fr) (fun r303 D303 => ?_)
  refine fr_bind (g_X48_flag_fr) (fun r306 D306 => ?_)
  exact fr_some
  refine fr_ite (fun c236 => ?_) (fun c236 => ?_)
  exact fr_some
  refine fr_ck (fun ha248 => ?_)
  refine fr_ck (fun ha255 => ?_)
  refine fr_bind (g_X55_worth_fr) (fun r256 D256 => ?_)
  refine fr_bind (g_X48_flag_fr) (fun r259 D259 => ?_)
  exact fr_some
  refine fr_ite (fun c181 => ?_) (fun c181 => ?_)
  exact fr_some
  refine fr_ck (fun ha193 => ?_)
  refine fr_ck (fun ha200 => ?_)
  refine fr_ck (fun ha207 => ?_)
  refine fr_bind (g_X55_turn_fr) (fun r208 D208 => ?_)
  refine fr_bind (g_X48_flag_fr) (fun r211 D211 => ?_)
  exact fr_some
  refine fr_ite (fun c126 => ?_) (fun c126 => ?_)
  exact fr_some
  refine fr_ck (fun ha138 => ?_)
  refine fr_ck (fun ha145 => ?_)
  refine fr_ck (fun ha152 => ?_)
  refine fr_bind (g_X55_change_fr) (fun r153 D153 => ?_)
  refine fr_bind (g_X48_flag_fr) (fun r156 D156 => ?_)
  exact fr_some
  refine fr_ite (fun c77 => ?_) (fun c77 => ?_)
  exact fr_some
  refine fr_ck (fun ha89 => ?_)
  refine fr_ck (fun ha96 => ?_)
  refine fr_bind (g_X55_before_fr) (fun r98 D98 => ?_)
  refine fr_bind (g_X48_flag_fr) (fun r101 D101 => ?_)
  exact fr_some
  refine fr_ite (fun c17 => ?_) (fun c17 => ?_)
  exact fr_some
  refine fr_ck (fun ha29 => ?_)
  refine fr_ck (fun ha36 => ?_)
  refine fr_ck (fun ha43 => ?_)
  refine fr_ck (fun ha50 => ?_)
  refine fr_bind (g_X55_act_fr) (fun r51 D51 => ?_)
  exact fr_some
theorem g_X48_samples_fr {D : ga_D} : ga_fr 5144 5342 D (g_X48_samples D) := by
  unfold g_X48_samples
  refine fr_bind (g_X48_isCall_fr) (fun r7 D7 => ?_)
  refine fr_ite (fun c10 => ?_) (fun c10 => ?_)
  refine fr_bind (g_X48_isCall_fr) (fun r54 D54 => ?_)
  refine fr_ite (fun c57 => ?_) (fun c57 => ?_)
  refine fr_bind (g_X48_isCall_fr) (fun r112 D112 => ?_)
  refine fr_ite (fun c115 => ?_) (fun c115 => ?_)
  refine fr_bind (g_X48_isCall_fr) (fun r176 D176 => ?_)
  refine fr_ite (fun c179 => ?_) (fun c179 => ?_)
  refine fr_bind (g_X48_isCall_fr) (fun r229 D229 => ?_)
  refine fr_ite (fun c232 => ?_) (fun c232 => ?_)
  refine fr_bind (g_X48_isCall_fr) (fun r268 D268 => ?_)
  refine fr_ite (fun c271 => ?_) (fun c271 => ?_)
  refine fr_bind (g_X48_isCall_fr) (fun r323 D323 => ?_)
  refine fr_ite (fun c326 => ?_) (fun c326 => ?_)
  refine fr_bind (g_X48_isCall_fr) (fun r376 D376 => ?_)
  refine fr_ite (fun c379 => ?_) (fun c379 => ?_)
  refine fr_bind (g_X48_isCall_fr) (fun r416 D416 => ?_)
  refine fr_ite (fun c419 => ?_) (fun c419 => ?_)
  refine fr_bind (g_X48_isCall_fr) (fun r469 D469 => ?_)
  refine fr_ite (fun c472 => ?_) (fun c472 => ?_)
  refine fr_bind (g_X48_isCall_fr) (fun r508 D508 => ?_)
  refine fr_ite (fun c511 => ?_) (fun c511 => ?_)
  refine fr_bind (g_X48_isCall_fr) (fun r560 D560 => ?_)
  refine fr_ite (fun c563 => ?_) (fun c563 => ?_)
  refine fr_bind (g_X48_isCall_fr) (fun r607 D607 => ?_)
  refine fr_ite (fun c610 => ?_) (fun c610 => ?_)
  refine fr_bind (g_X48_isCall_fr) (fun r661 D661 => ?_)
  refine fr_ite (fun c664 => ?_) (fun c664 => ?_)
  refine fr_bind (g_X48_isCall_fr) (fun r707 D707 => ?_)
  refine fr_ite (fun c710 => ?_) (fun c710 => ?_)
  refine fr_bind (g_X48_none_fr) (fun r741 D741 => ?_)
  exact fr_some
  refine fr_ite (fun c717 => ?_) (fun c717 => ?_)
  exact fr_some
  refine fr_ck (fun ha729 => ?_)
  refine fr_bind (g_X56_trend_fr) (fun r731 D731 => ?_)
  exact fr_some
  refine fr_ite (fun c671 => ?_) (fun c671 => ?_)
  exact fr_some
  refine fr_ck (fun ha683 => ?_)
  refine fr_ck (fun ha690 => ?_)
  refine fr_bind (g_X56_moisture_fr) (fun r692 D692 => ?_)
  exact fr_some
  refine fr_ite (fun c617 => ?_) (fun c617 => ?_)
  exact fr_some
  refine fr_ck (fun ha629 => ?_)
  refine fr_ck (fun ha636 => ?_)
  refine fr_ck (fun ha642 => ?_)
  refine fr_bind (g_X56_dry_fr) (fun r643 D643 => ?_)
  refine fr_bind (g_X48_flag_fr) (fun r646 D646 => ?_)
  exact fr_some
  refine fr_ite (fun c570 => ?_) (fun c570 => ?_)
  exact fr_some
  refine fr_ck (fun ha582 => ?_)
  refine fr_ck (fun ha589 => ?_)
  refine fr_bind (g_X56_place_fr) (fun r591 D591 => ?_)
  exact fr_some
  refine fr_ite (fun c518 => ?_) (fun c518 => ?_)
  exact fr_some
  refine fr_ck (fun ha530 => ?_)
  refine fr_ck (fun ha537 => ?_)
  refine fr_ck (fun ha543 => ?_)
  refine fr_bind (g_X56_third_fr) (fun r544 D544 => ?_)
  exact fr_some
  refine fr_ite (fun c479 => ?_) (fun c479 => ?_)
  exact fr_some
  refine fr_ck (fun ha491 => ?_)
  refine fr_bind (g_X56_price_fr) (fun r493 D493 => ?_)
  exact fr_some
  refine fr_ite (fun c426 => ?_) (fun c426 => ?_)
  exact fr_some
  refine fr_ck (fun ha438 => ?_)
  refine fr_ck (fun ha444 => ?_)
  refine fr_ck (fun ha450 => ?_)
  refine fr_bind (g_X56_step_fr) (fun r451 D451 => ?_)
  refine fr_bind (g_X48_flag_fr) (fun r454 D454 => ?_)
  exact fr_some
  refine fr_ite (fun c386 => ?_) (fun c386 => ?_)
  exact fr_some
  refine fr_ck (fun ha398 => ?_)
  refine fr_bind (g_X56_repeats_fr) (fun r400 D400 => ?_)
  exact fr_some
  refine fr_ite (fun c333 => ?_) (fun c333 => ?_)
  exact fr_some
  refine fr_ck (fun ha345 => ?_)
  refine fr_ck (fun ha352 => ?_)
  refine fr_ck (fun ha359 => ?_)
  refine fr_bind (g_X56_share_fr) (fun r361 D361 => ?_)
  exact fr_some
  refine fr_ite (fun c278 => ?_) (fun c278 => ?_)
  exact fr_some
  refine fr_ck (fun ha290 => ?_)
  refine fr_ck (fun ha297 => ?_)
  refine fr_ck (fun ha304 => ?_)
  refine fr_bind (g_X56_piece_fr) (fun r305 D305 => ?_)
  refine fr_bind (g_X48_flag_fr) (fun r308 D308 => ?_)
  exact fr_some
  refine fr_ite (fun c239 => ?_) (fun c239 => ?_)
  exact fr_some
  refine fr_ck (fun ha251 => ?_)
  refine fr_bind (g_X56_lot_fr) (fun r252 D252 => ?_)
  exact fr_some
  refine fr_ite (fun c186 => ?_) (fun c186 => ?_)
  exact fr_some
  refine fr_ck (fun ha198 => ?_)
  refine fr_ck (fun ha205 => ?_)
  refine fr_ck (fun ha212 => ?_)
  refine fr_bind (g_X56_risk_fr) (fun r214 D214 => ?_)
  exact fr_some
  refine fr_ite (fun c122 => ?_) (fun c122 => ?_)
  exact fr_some
  refine fr_ck (fun ha134 => ?_)
  refine fr_ck (fun ha141 => ?_)
  refine fr_ck (fun ha147 => ?_)
  refine fr_ck (fun ha153 => ?_)
  refine fr_ck (fun ha159 => ?_)
  refine fr_bind (g_X56_best_fr) (fun r160 D160 => ?_)
  exact fr_some
  refine fr_ite (fun c64 => ?_) (fun c64 => ?_)
  exact fr_some
  refine fr_ck (fun ha76 => ?_)
  refine fr_ck (fun ha83 => ?_)
  refine fr_ck (fun ha89 => ?_)
  refine fr_ck (fun ha95 => ?_)
  refine fr_bind (g_X56_odds_fr) (fun r97 D97 => ?_)
  exact fr_some
  refine fr_ite (fun c17 => ?_) (fun c17 => ?_)
  exact fr_some
  refine fr_ck (fun ha29 => ?_)
  refine fr_ck (fun ha36 => ?_)
  refine fr_bind (g_X56_plan_fr) (fun r38 D38 => ?_)
  exact fr_some
theorem g_X48_deposits_j443_fr  (s0 s1 : Int) (D : ga_D) : ga_fr 5144 5342 D (g_X48_deposits_j443 s0 s1 D) := by
  unfold g_X48_deposits_j443
  refine fr_bind (g_X57_power_fr) (fun r443 D443 => ?_)
  refine fr_bind (g_X48_flag_fr) (fun r446 D446 => ?_)
  exact fr_some
theorem g_X48_deposits_j385_fr  (s0 s1 : Int) (D : ga_D) : ga_fr 5144 5342 D (g_X48_deposits_j385 s0 s1 D) := by
  unfold g_X48_deposits_j385
  refine fr_bind (g_X57_full_fr) (fun r385 D385 => ?_)
  refine fr_bind (g_X48_flag_fr) (fun r388 D388 => ?_)
  exact fr_some
theorem g_X48_deposits_fr {D : ga_D} : ga_fr 5144 5342 D (g_X48_deposits D) := by
  unfold g_X48_deposits
  refine fr_bind (g_X48_isCall_fr) (fun r7 D7 => ?_)
  refine fr_ite (fun c10 => ?_) (fun c10 => ?_)
  refine fr_bind (g_X48_isCall_fr) (fun r56 D56 => ?_)
  refine fr_ite (fun c59 => ?_) (fun c59 => ?_)
  refine fr_bind (g_X48_isCall_fr) (fun r89 D89 => ?_)
  refine fr_ite (fun c92 => ?_) (fun c92 => ?_)
  refine fr_bind (g_X48_isCall_fr) (fun r122 D122 => ?_)
  refine fr_ite (fun c125 => ?_) (fun c125 => ?_)
  refine fr_bind (g_X48_isCall_fr) (fun r162 D162 => ?_)
  refine fr_ite (fun c165 => ?_) (fun c165 => ?_)
  refine fr_bind (g_X48_isCall_fr) (fun r208 D208 => ?_)
  refine fr_ite (fun c211 => ?_) (fun c211 => ?_)
  refine fr_bind (g_X48_isCall_fr) (fun r256 D256 => ?_)
  refine fr_ite (fun c259 => ?_) (fun c259 => ?_)
  refine fr_bind (g_X48_isCall_fr) (fun r289 D289 => ?_)
  refine fr_ite (fun c292 => ?_) (fun c292 => ?_)
  refine fr_bind (g_X48_isCall_fr) (fun r345 D345 => ?_)
  refine fr_ite (fun c348 => ?_) (fun c348 => ?_)
  refine fr_bind (g_X48_isCall_fr) (fun r403 D403 => ?_)
  refine fr_ite (fun c406 => ?_) (fun c406 => ?_)
  refine fr_bind (g_X48_isCall_fr) (fun r461 D461 => ?_)
  refine fr_ite (fun c464 => ?_) (fun c464 => ?_)
  refine fr_bind (g_X48_isCall_fr) (fun r527 D527 => ?_)
  refine fr_ite (fun c530 => ?_) (fun c530 => ?_)
  refine fr_bind (g_X48_isCall_fr) (fun r560 D560 => ?_)
  refine fr_ite (fun c563 => ?_) (fun c563 => ?_)
  refine fr_bind (g_X48_isCall_fr) (fun r606 D606 => ?_)
  refine fr_ite (fun c609 => ?_) (fun c609 => ?_)
  refine fr_bind (g_X48_isCall_fr) (fun r653 D653 => ?_)
  refine fr_ite (fun c656 => ?_) (fun c656 => ?_)
  refine fr_bind (g_X48_isCall_fr) (fun r700 D700 => ?_)
  refine fr_ite (fun c703 => ?_) (fun c703 => ?_)
  refine fr_bind (g_X48_isCall_fr) (fun r753 D753 => ?_)
  refine fr_ite (fun c756 => ?_) (fun c756 => ?_)
  refine fr_bind (g_X48_isCall_fr) (fun r793 D793 => ?_)
  refine fr_ite (fun c796 => ?_) (fun c796 => ?_)
  refine fr_bind (g_X48_isCall_fr) (fun r842 D842 => ?_)
  refine fr_ite (fun c845 => ?_) (fun c845 => ?_)
  refine fr_bind (g_X48_isCall_fr) (fun r881 D881 => ?_)
  refine fr_ite (fun c884 => ?_) (fun c884 => ?_)
  refine fr_bind (g_X48_isCall_fr) (fun r921 D921 => ?_)
  refine fr_ite (fun c924 => ?_) (fun c924 => ?_)
  refine fr_bind (g_X48_isCall_fr) (fun r960 D960 => ?_)
  refine fr_ite (fun c963 => ?_) (fun c963 => ?_)
  refine fr_bind (g_X48_none_fr) (fun r994 D994 => ?_)
  exact fr_some
  refine fr_ite (fun c970 => ?_) (fun c970 => ?_)
  exact fr_some
  refine fr_ck (fun ha982 => ?_)
  refine fr_bind (g_X57_fraud_fr) (fun r984 D984 => ?_)
  exact fr_some
  refine fr_ite (fun c931 => ?_) (fun c931 => ?_)
  exact fr_some
  refine fr_ck (fun ha943 => ?_)
  refine fr_bind (g_X57_cleared_fr) (fun r945 D945 => ?_)
  exact fr_some
  refine fr_ite (fun c891 => ?_) (fun c891 => ?_)
  exact fr_some
  refine fr_ck (fun ha903 => ?_)
  refine fr_bind (g_X57_clear_fr) (fun r905 D905 => ?_)
  exact fr_some
  refine fr_ite (fun c852 => ?_) (fun c852 => ?_)
  exact fr_some
  refine fr_ck (fun ha864 => ?_)
  refine fr_bind (g_X57_shop_fr) (fun r866 D866 => ?_)
  exact fr_some
  refine fr_ite (fun c803 => ?_) (fun c803 => ?_)
  exact fr_some
  refine fr_ck (fun ha815 => ?_)
  refine fr_ck (fun ha822 => ?_)
  refine fr_bind (g_X57_redeem_fr) (fun r824 D824 => ?_)
  refine fr_bind (g_X48_flag_fr) (fun r827 D827 => ?_)
  exact fr_some
  refine fr_ite (fun c763 => ?_) (fun c763 => ?_)
  exact fr_some
  refine fr_ck (fun ha775 => ?_)
  refine fr_bind (g_X57_coupon_fr) (fun r777 D777 => ?_)
  exact fr_some
  refine fr_ite (fun c710 => ?_) (fun c710 => ?_)
  exact fr_some
  refine fr_ck (fun ha722 => ?_)
  refine fr_ck (fun ha728 => ?_)
  refine fr_ck (fun ha734 => ?_)
  refine fr_bind (g_X57_mark_fr) (fun r735 D735 => ?_)
  refine fr_bind (g_X48_flag_fr) (fun r738 D738 => ?_)
  exact fr_some
  refine fr_ite (fun c663 => ?_) (fun c663 => ?_)
  exact fr_some
  refine fr_ck (fun ha675 => ?_)
  refine fr_ck (fun ha682 => ?_)
  refine fr_bind (g_X57_double2_fr) (fun r684 D684 => ?_)
  exact fr_some
  refine fr_ite (fun c616 => ?_) (fun c616 => ?_)
  exact fr_some
  refine fr_ck (fun ha628 => ?_)
  refine fr_ck (fun ha635 => ?_)
  refine fr_bind (g_X57_join_fr) (fun r637 D637 => ?_)
  exact fr_some
  refine fr_ite (fun c570 => ?_) (fun c570 => ?_)
  exact fr_some
  refine fr_ck (fun ha582 => ?_)
  refine fr_ck (fun ha589 => ?_)
  refine fr_bind (g_X57_count_fr) (fun r591 D591 => ?_)
  exact fr_some
  refine fr_ite (fun c537 => ?_) (fun c537 => ?_)
  exact fr_some
  refine fr_bind (g_X57_reason_fr) (fun r544 D544 => ?_)
  exact fr_some
  refine fr_ite (fun c471 => ?_) (fun c471 => ?_)
  exact fr_some
  refine fr_ck (fun ha483 => ?_)
  refine fr_ck (fun ha490 => ?_)
  refine fr_ck (fun ha496 => ?_)
  refine fr_ck (fun ha503 => ?_)
  refine fr_ck (fun ha510 => ?_)
  refine fr_bind (g_X57_give_fr) (fun r511 D511 => ?_)
  exact fr_some
  refine fr_ite (fun c413 => ?_) (fun c413 => ?_)
  exact fr_some
  refine fr_ck (fun ha425 => ?_)
  refine fr_ck (fun ha432 => ?_)
  refine fr_ite (fun c435 => ?_) (fun c435 => ?_)
  refine g_X48_deposits_j443_fr _ _ _ 
  refine g_X48_deposits_j443_fr _ _ _ 
  refine fr_ite (fun c355 => ?_) (fun c355 => ?_)
  exact fr_some
  refine fr_ck (fun ha367 => ?_)
  refine fr_ck (fun ha374 => ?_)
  refine fr_ite (fun c377 => ?_) (fun c377 => ?_)
  refine g_X48_deposits_j385_fr _ _ _ 
  refine g_X48_deposits_j385_fr _ _ _ 
  refine fr_ite (fun c299 => ?_) (fun c299 => ?_)
  exact fr_some
  refine fr_ck (fun ha311 => ?_)
  refine fr_ck (fun ha318 => ?_)
  refine fr_ck (fun ha325 => ?_)
  refine fr_bind (g_X57_shape_fr) (fun r327 D327 => ?_)
  refine fr_bind (g_X48_flag_fr) (fun r330 D330 => ?_)
  exact fr_some
  refine fr_ite (fun c266 => ?_) (fun c266 => ?_)
  exact fr_some
  refine fr_bind (g_X57_machine_fr) (fun r273 D273 => ?_)
  exact fr_some
  refine fr_ite (fun c218 => ?_) (fun c218 => ?_)
  exact fr_some
  refine fr_ck (fun ha230 => ?_)
  refine fr_ck (fun ha237 => ?_)
  refine fr_bind (g_X57_good_fr) (fun r238 D238 => ?_)
  refine fr_bind (g_X48_flag_fr) (fun r241 D241 => ?_)
  exact fr_some
  refine fr_ite (fun c172 => ?_) (fun c172 => ?_)
  exact fr_some
  refine fr_ck (fun ha184 => ?_)
  refine fr_ck (fun ha191 => ?_)
  refine fr_bind (g_X57_check_fr) (fun r192 D192 => ?_)
  exact fr_some
  refine fr_ite (fun c132 => ?_) (fun c132 => ?_)
  exact fr_some
  refine fr_ck (fun ha144 => ?_)
  refine fr_bind (g_X57_digit_fr) (fun r146 D146 => ?_)
  exact fr_some
  refine fr_ite (fun c99 => ?_) (fun c99 => ?_)
  exact fr_some
  refine fr_bind (g_X57_back_fr) (fun r106 D106 => ?_)
  exact fr_some
  refine fr_ite (fun c66 => ?_) (fun c66 => ?_)
  exact fr_some
  refine fr_bind (g_X57_read_fr) (fun r73 D73 => ?_)
  exact fr_some
  refine fr_ite (fun c17 => ?_) (fun c17 => ?_)
  exact fr_some
  refine fr_ck (fun ha29 => ?_)
  refine fr_ck (fun ha36 => ?_)
  refine fr_bind (g_X57_width_fr) (fun r38 D38 => ?_)
  refine fr_bind (g_X48_flag_fr) (fun r41 D41 => ?_)
  exact fr_some
theorem g_X48_doLine_fr {D : ga_D} : ga_fr 5144 5342 D (g_X48_doLine D) := by
  unfold g_X48_doLine
  refine fr_upd (by decide) (fun D2 => ?_)
  refine fr_upd (by decide) (fun D7 => ?_)
  refine fr_upd (by decide) (fun D12 => ?_)
  refine fr_bind (g_X48_is_fr) (fun r19 D19 => ?_)
  refine fr_ite (fun c22 => ?_) (fun c22 => ?_)
  refine fr_bind (g_X48_is_fr) (fun r34 D34 => ?_)
  refine fr_ite (fun c37 => ?_) (fun c37 => ?_)
  refine fr_bind (g_X48_is_fr) (fun r70 D70 => ?_)
  refine fr_ite (fun c73 => ?_) (fun c73 => ?_)
  refine fr_bind (g_X48_is_fr) (fun r85 D85 => ?_)
  refine fr_ite (fun c88 => ?_) (fun c88 => ?_)
  refine fr_bind (g_X48_is_fr) (fun r121 D121 => ?_)
  refine fr_ite (fun c124 => ?_) (fun c124 => ?_)
  refine fr_bind (g_X48_is_fr) (fun r157 D157 => ?_)
  refine fr_ite (fun c160 => ?_) (fun c160 => ?_)
  refine fr_bind (g_X48_is_fr) (fun r172 D172 => ?_)
  refine fr_ite (fun c175 => ?_) (fun c175 => ?_)
  refine fr_bind (g_X48_is_fr) (fun r208 D208 => ?_)
  refine fr_ite (fun c211 => ?_) (fun c211 => ?_)
  refine fr_bind (g_X48_is_fr) (fun r223 D223 => ?_)
  refine fr_ite (fun c226 => ?_) (fun c226 => ?_)
  refine fr_bind (g_X48_is_fr) (fun r238 D238 => ?_)
  refine fr_ite (fun c241 => ?_) (fun c241 => ?_)
  refine fr_upd (by decide) (fun D272 => ?_)
  exact fr_some
  refine fr_bind (g_X48_deposits_fr) (fun r245 D245 => ?_)
  refine fr_bind (g_X57_thrown_fr) (fun r254 D254 => ?_)
  refine fr_ite (fun c257 => ?_) (fun c257 => ?_)
  refine fr_upd (by decide) (fun D265 => ?_)
  exact fr_some
  refine fr_upd (by decide) (fun D265 => ?_)
  exact fr_some
  refine fr_bind (g_X48_samples_fr) (fun r230 D230 => ?_)
  exact fr_some
  refine fr_bind (g_X48_apart_fr) (fun r215 D215 => ?_)
  exact fr_some
  refine fr_bind (g_X48_product_fr) (fun r179 D179 => ?_)
  refine fr_bind (g_X54_thrown_fr) (fun r188 D188 => ?_)
  refine fr_ite (fun c191 => ?_) (fun c191 => ?_)
  refine fr_upd (by decide) (fun D199 => ?_)
  exact fr_some
  refine fr_upd (by decide) (fun D199 => ?_)
  exact fr_some
  refine fr_bind (g_X48_store_fr) (fun r164 D164 => ?_)
  exact fr_some
  refine fr_bind (g_X48_rounds_fr) (fun r128 D128 => ?_)
  refine fr_bind (g_X52_thrown_fr) (fun r137 D137 => ?_)
  refine fr_ite (fun c140 => ?_) (fun c140 => ?_)
  refine fr_upd (by decide) (fun D148 => ?_)
  exact fr_some
  refine fr_upd (by decide) (fun D148 => ?_)
  exact fr_some
  refine fr_bind (g_X48_hazards_fr) (fun r92 D92 => ?_)
  refine fr_bind (g_X51_thrown_fr) (fun r101 D101 => ?_)
  refine fr_ite (fun c104 => ?_) (fun c104 => ?_)
  refine fr_upd (by decide) (fun D112 => ?_)
  exact fr_some
  refine fr_upd (by decide) (fun D112 => ?_)
  exact fr_some
  refine fr_bind (g_X48_line_fr) (fun r77 D77 => ?_)
  exact fr_some
  refine fr_bind (g_X48_tickets_fr) (fun r41 D41 => ?_)
  refine fr_bind (g_X49_thrown_fr) (fun r50 D50 => ?_)
  refine fr_ite (fun c53 => ?_) (fun c53 => ?_)
  refine fr_upd (by decide) (fun D61 => ?_)
  exact fr_some
  refine fr_upd (by decide) (fun D61 => ?_)
  exact fr_some
  refine fr_bind (g_X48_house_fr) (fun r26 D26 => ?_)
  exact fr_some
theorem g_X48_print_fr {x1 : Int} {D : ga_D} : ga_fr 5144 5342 D (g_X48_print x1 D) := by
  unfold g_X48_print
  refine fr_ck (fun ha10 => ?_)
  refine fr_upd (by decide) (fun D10 => ?_)
  refine fr_upd (by decide) (fun D18 => ?_)
  exact fr_some
theorem g_X48_printNumber_l28_fr  {k48 : Int → Int → ga_D → ga_S} (hk48 : ∀ (x3 x5 : Int) (D : ga_D), ga_fr 5144 5342 D (k48 x3 x5 D)) : ∀ (n : Nat) (x3 x5 : Int) (D : ga_D), ga_fr 5144 5342 D (g_X48_printNumber_l28 n x3 x5 D k48) := by
  intro n
  induction n with
  | zero => intro x3 x5 D; exact fr_none
  | succ n ih =>
    intro x3 x5 D
    show ga_fr 5144 5342 D (ga_ck (x3 ≠ 0) (if (-9) ≤ aw_w64 (Int.tdiv x5 x3) then (k48 x3 x5 D) else (ga_let (aw_w64 (x3 * 10)) (fun v44 => g_X48_printNumber_l28 n v44 x5 D k48))))
    refine fr_ck (fun hz31 => ?_)
    refine fr_ite (fun c36 => ?_) (fun c36 => ?_)
    exact hk48 _ _ _ 
    refine fr_let (fun v44 => ?_)
    exact ih _ _ _ 
theorem g_X48_printNumber_l48_fr  {k80 : ga_D → ga_S} (hk80 : ∀ (D : ga_D), ga_fr 5144 5342 D (k80 D)) : ∀ (n : Nat) (x3 x5 : Int) (D : ga_D), ga_fr 5144 5342 D (g_X48_printNumber_l48 n x3 x5 D k80) := by
  intro n
  induction n with
  | zero => intro x3 x5 D; exact fr_none
  | succ n ih =>
    intro x3 x5 D
    show ga_fr 5144 5342 D (if x3 ≤ 0 then (k80 D) else (ga_ck (x3 ≠ 0) (ga_bind (g_X48_print (aw_w32 (aw_w64 (48 - (Int.tmod (aw_w64 (Int.tdiv x5 x3)) 10)))) D) (fun r68 D68 => ga_let (aw_w64 (Int.tdiv x3 10)) (fun v76 => g_X48_printNumber_l48 n v76 x5 D68 k80)))))
    refine fr_ite (fun c51 => ?_) (fun c51 => ?_)
    exact hk80 _ 
    refine fr_ck (fun hz61 => ?_)
    refine fr_bind (g_X48_print_fr) (fun r68 D68 => ?_)
    refine fr_let (fun v76 => ?_)
    exact ih _ _ _ 
theorem g_X48_printNumber_j12_fr  (x1 : Int) (D : ga_D) : ga_fr 5144 5342 D (g_X48_printNumber_j12 x1 D) := by
  unfold g_X48_printNumber_j12
  refine fr_ite (fun c17 => ?_) (fun c17 => ?_)
  refine g_X48_printNumber_l28_fr (fun x3 x5 D48 => ?_) _ _ _ _ 
  refine g_X48_printNumber_l48_fr (fun D80 => ?_) _ _ _ _ 
  exact fr_some
  refine fr_let (fun v26 => ?_)
  refine g_X48_printNumber_l28_fr (fun x3 x5 D48 => ?_) _ _ _ _ 
  refine g_X48_printNumber_l48_fr (fun D80 => ?_) _ _ _ _ 
  exact fr_some
theorem g_X48_printNumber_fr {x1 : Int} {D : ga_D} : ga_fr 5144 5342 D (g_X48_printNumber x1 D) := by
  unfold g_X48_printNumber
  refine fr_ite (fun c3 => ?_) (fun c3 => ?_)
  refine g_X48_printNumber_j12_fr _ _ 
  refine fr_bind (g_X48_print_fr) (fun r9 D9 => ?_)
  refine g_X48_printNumber_j12_fr _ _ 
theorem g_X48_run_l42_fr  {k66 : Int → Int → Int → Int → ga_D → ga_S} (hk66 : ∀ (x1 x2 x3 x4 : Int) (D : ga_D), ga_fr 5144 5342 D (k66 x1 x2 x3 x4 D)) : ∀ (n : Nat) (x1 x2 x3 x4 : Int) (D : ga_D), ga_fr 5144 5342 D (g_X48_run_l42 n x1 x2 x3 x4 D k66) := by
  intro n
  induction n with
  | zero => intro x1 x2 x3 x4 D; exact fr_none
  | succ n ih =>
    intro x1 x2 x3 x4 D
    show ga_fr 5144 5342 D (if x1 ≤ x4 then (k66 x1 x2 x3 x4 D) else (ga_ck (0 ≤ x4 ∧ x4 < 8020) (if D 5328 x4 = 10 then (k66 x1 x2 x3 x4 D) else (ga_let (aw_w32 (x4 + 1)) (fun v60 => g_X48_run_l42 n x1 x2 x3 v60 D k66)))))
    refine fr_ite (fun c45 => ?_) (fun c45 => ?_)
    exact hk66 _ _ _ _ _ 
    refine fr_ck (fun ha54 => ?_)
    refine fr_ite (fun c57 => ?_) (fun c57 => ?_)
    exact hk66 _ _ _ _ _ 
    refine fr_let (fun v60 => ?_)
    exact ih _ _ _ _ _ 
theorem g_X48_run_j156_fr  {k34 : Int → Int → Int → ga_D → ga_S} (hk34 : ∀ (x1 x2 x3 : Int) (D : ga_D), ga_fr 5144 5342 D (k34 x1 x2 x3 D)) (x1 x2 x4 s0 s1 s2 : Int) (D : ga_D) : ga_fr 5144 5342 D (g_X48_run_j156 x1 x2 x4 s0 s1 s2 D k34) := by
  unfold g_X48_run_j156
  refine fr_ck (fun ha156_0 => ?_)
  refine fr_ck (fun hg156_1 => ?_)
  refine fr_ck (fun ha156 => ?_)
  refine fr_upd (by omega) (fun D156 => ?_)
  refine fr_upd (by decide) (fun D164 => ?_)
  refine fr_let (fun v167 => ?_)
  refine fr_let (fun v174 => ?_)
  exact hk34 _ _ _ _ 
theorem g_X48_run_j127_fr  {k34 : Int → Int → Int → ga_D → ga_S} (hk34 : ∀ (x1 x2 x3 : Int) (D : ga_D), ga_fr 5144 5342 D (k34 x1 x2 x3 D)) (x1 x2 x4 x5 : Int) (D : ga_D) : ga_fr 5144 5342 D (g_X48_run_j127 x1 x2 x4 x5 D k34) := by
  unfold g_X48_run_j127
  refine fr_bind (g_X48_print_fr) (fun r130 D130 => ?_)
  refine fr_ite (fun c145 => ?_) (fun c145 => ?_)
  refine g_X48_run_j156_fr (fun x1 x2 x3 D34 => ?_) _ _ _ _ _ _ _ 
  exact hk34 _ _ _ _ 
  refine g_X48_run_j156_fr (fun x1 x2 x3 D34 => ?_) _ _ _ _ _ _ _ 
  exact hk34 _ _ _ _ 
theorem g_X48_run_j66_fr  {k93 : Int → ga_D → ga_S} {k34 : Int → Int → Int → ga_D → ga_S} (hk93 : ∀ (x2 : Int) (D : ga_D), ga_fr 5144 5342 D (k93 x2 D)) (hk34 : ∀ (x1 x2 x3 : Int) (D : ga_D), ga_fr 5144 5342 D (k34 x1 x2 x3 D)) (x1 x2 x3 x4 : Int) (D : ga_D) : ga_fr 5144 5342 D (g_X48_run_j66 x1 x2 x3 x4 D k93 k34) := by
  unfold g_X48_run_j66
  refine fr_bind (g_X48_split_fr) (fun r70 D70 => ?_)
  refine fr_ite (fun c77 => ?_) (fun c77 => ?_)
  refine fr_let (fun v167 => ?_)
  refine fr_let (fun v174 => ?_)
  exact hk34 _ _ _ _ 
  refine fr_bind (g_X48_doLine_fr) (fun r81 D81 => ?_)
  refine fr_ite (fun c90 => ?_) (fun c90 => ?_)
  refine fr_ite (fun c109 => ?_) (fun c109 => ?_)
  refine fr_bind (g_X48_printNumber_fr) (fun r124 D124 => ?_)
  refine g_X48_run_j127_fr (fun x1 x2 x3 D34 => ?_) _ _ _ _ _ 
  exact hk34 _ _ _ _ 
  refine fr_bind (g_X48_print_fr) (fun r115 D115 => ?_)
  refine g_X48_run_j127_fr (fun x1 x2 x3 D34 => ?_) _ _ _ _ _ 
  exact hk34 _ _ _ _ 
  exact hk93 _ _ 
theorem g_X48_run_l34_fr  {k93 : Int → ga_D → ga_S} {k178 : ga_D → ga_S} (hk93 : ∀ (x2 : Int) (D : ga_D), ga_fr 5144 5342 D (k93 x2 D)) (hk178 : ∀ (D : ga_D), ga_fr 5144 5342 D (k178 D)) : ∀ (n : Nat) (x1 x2 x3 : Int) (D : ga_D), ga_fr 5144 5342 D (g_X48_run_l34 n x1 x2 x3 D k93 k178) := by
  intro n
  induction n with
  | zero => intro x1 x2 x3 D; exact fr_none
  | succ n ih =>
    intro x1 x2 x3 D
    show ga_fr 5144 5342 D (if x1 ≤ x3 then (k178 D) else (g_X48_run_l42 aw_fu x1 x2 x3 x3 D (fun x1 x2 x3 x4 D66 => g_X48_run_j66 x1 x2 x3 x4 D66 (fun x2 D93 => k93 x2 D93) (fun x1 x2 x3 D34 => g_X48_run_l34 n x1 x2 x3 D34 k93 k178))))
    refine fr_ite (fun c36 => ?_) (fun c36 => ?_)
    exact hk178 _ 
    refine g_X48_run_l42_fr (fun x1 x2 x3 x4 D66 => ?_) _ _ _ _ _ _ 
    refine g_X48_run_j66_fr (fun x2 D93 => ?_) (fun x1 x2 x3 D34 => ?_) _ _ _ _ _ 
    exact hk93 _ _ 
    exact ih _ _ _ _ 
theorem g_X48_run_fr {D : ga_D} : ga_fr 5144 5342 D (g_X48_run D) := by
  unfold g_X48_run
  refine fr_upd (by decide) (fun D2 => ?_)
  refine fr_let (fun v9 => ?_)
  refine fr_upd (by decide) (fun D12 => ?_)
  refine fr_upd (by decide) (fun D17 => ?_)
  refine fr_upd (by decide) (fun D22 => ?_)
  refine fr_upd (by decide) (fun D27 => ?_)
  refine g_X48_run_l34_fr (fun x2 D93 => ?_) (fun D178 => ?_) _ _ _ _ _ 
  refine fr_upd (by decide) (fun D98 => ?_)
  exact fr_some
  exact fr_some
theorem g_X48_made_fr {D : ga_D} : ga_fr 5144 5342 D (g_X48_made D) := by
  unfold g_X48_made
  refine fr_upd (by decide) (fun D2 => ?_)
  exact fr_some
theorem g_X48_out_fr {x1 : Int} {D : ga_D} : ga_fr 5144 5342 D (g_X48_out x1 D) := by
  unfold g_X48_out
  refine fr_upd (by decide) (fun D2 => ?_)
  refine fr_ite (fun c6 => ?_) (fun c6 => ?_)
  exact fr_some
  refine fr_ite (fun c14 => ?_) (fun c14 => ?_)
  exact fr_some
  refine fr_ck (fun ha22 => ?_)
  exact fr_some
theorem g_X48_wrong_fr {D : ga_D} : ga_fr 5144 5342 D (g_X48_wrong D) := by
  unfold g_X48_wrong
  refine fr_upd (by decide) (fun D2 => ?_)
  exact fr_some
theorem g_X48_answers_fr {D : ga_D} : ga_fr 5144 5342 D (g_X48_answers D) := by
  unfold g_X48_answers
  refine fr_upd (by decide) (fun D2 => ?_)
  exact fr_some
theorem g_X48_answer_fr {x1 : Int} {D : ga_D} : ga_fr 5144 5342 D (g_X48_answer x1 D) := by
  unfold g_X48_answer
  refine fr_upd (by decide) (fun D2 => ?_)
  refine fr_ite (fun c6 => ?_) (fun c6 => ?_)
  exact fr_some
  refine fr_ite (fun c14 => ?_) (fun c14 => ?_)
  exact fr_some
  refine fr_ck (fun ha22 => ?_)
  exact fr_some
