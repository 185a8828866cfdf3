theorem g_X10_set_l23_pr  {k55 : ga_D → ga_S} (hk55 : ∀ (D : ga_D), ga_pr D (k55 D)) : ∀ (n : Nat) (x0 x2 : Int) (D : ga_D), ga_pr D (g_X10_set_l23 n x0 x2 D k55) := by
  intro n
  induction n with
  | zero => intro x0 x2 D; exact pr_none
  | succ n ih =>
    intro x0 x2 D
    show ga_pr D (if x2 ≤ 0 then (k55 D) else (ga_ck (ga_K x0 = (9, 0)) (ga_let (ga_set D x0 1 (aw_w32 ((D x0 1) + 1))) (fun D39 => ga_ck (0 ≤ D x0 1 ∧ D x0 1 < 48) (ga_let (ga_set D39 ((x0 + 1)) (D x0 1) (aw_and x2 65535)) (fun D46 => ga_let (aw_shr x2 16) (fun v51 => g_X10_set_l23 n x0 v51 D46 k55)))))))
    refine pr_ite (fun c24 => ?_) (fun c24 => ?_)
    exact hk55 _ 
    refine pr_ck (fun hk28_0 => ?_)
    refine pr_upd (ga_Pn hk28_0 rfl) (fun D39 => ?_)
    refine pr_ck (fun ha46 => ?_)
    refine pr_upd (ga_Pn (KO_9_1 hk28_0) rfl) (fun D46 => ?_)
    refine pr_let (fun v51 => ?_)
    exact ih _ _ _ 
theorem g_X10_set_j15_pr  (x0 x1 s0 s1 : Int) (D : ga_D) : ga_pr D (g_X10_set_j15 x0 x1 s0 s1 D) := by
  unfold g_X10_set_j15
  refine pr_ck (fun hk15_0 => ?_)
  refine pr_ck (fun hp15 => ?_)
  refine pr_upd (ga_Pn hk15_0 rfl) (fun D15 => ?_)
  refine pr_let (fun v22 => ?_)
  refine g_X10_set_l23_pr (fun D55 => ?_) _ _ _ _ 
  exact pr_some
theorem g_X10_set_pr {x0 x1 : Int} {D : ga_D} : ga_pr D (g_X10_set x0 x1 D) := by
  unfold g_X10_set
  refine pr_ck (fun hk2_0 => ?_)
  refine pr_upd (ga_Pn hk2_0 rfl) (fun D2 => ?_)
  refine pr_ite (fun c7 => ?_) (fun c7 => ?_)
  refine g_X10_set_j15_pr _ _ _ _ _ 
  refine g_X10_set_j15_pr _ _ _ _ _ 
theorem g_X7_isMachine_pr {x1 : Int} {D : ga_D} : ga_pr D (g_X7_isMachine x1 D) := by
  unfold g_X7_isMachine
  refine pr_ite (fun c1 => ?_) (fun c1 => ?_)
  exact pr_some
  refine pr_ite (fun c9 => ?_) (fun c9 => ?_)
  exact pr_some
  exact pr_some
theorem g_X7_isKind_pr {x1 : Int} {D : ga_D} : ga_pr D (g_X7_isKind x1 D) := by
  unfold g_X7_isKind
  refine pr_ite (fun c1 => ?_) (fun c1 => ?_)
  exact pr_some
  refine pr_ite (fun c9 => ?_) (fun c9 => ?_)
  exact pr_some
  exact pr_some
theorem g_X7_feed_pr {x1 x2 x3 : Int} {D : ga_D} : ga_pr D (g_X7_feed x1 x2 x3 D) := by
  unfold g_X7_feed
  refine pr_bind (g_X7_isMachine_pr) (fun r2 D2 => ?_)
  refine pr_ite (fun c5 => ?_) (fun c5 => ?_)
  exact pr_some
  refine pr_bind (g_X7_isKind_pr) (fun r10 D10 => ?_)
  refine pr_ite (fun c13 => ?_) (fun c13 => ?_)
  exact pr_some
  refine pr_ite (fun c19 => ?_) (fun c19 => ?_)
  exact pr_some
  refine pr_ite (fun c27 => ?_) (fun c27 => ?_)
  refine pr_ck (fun ha43 => ?_)
  refine pr_upd (ga_Pn K_4120 rfl) (fun D43 => ?_)
  refine pr_upd (ga_Pn K_4114 rfl) (fun D46 => ?_)
  exact pr_some
  exact pr_some
theorem g_X7_turned_j28_pr  (x2 x3 x4 s0 : Int) (D : ga_D) : ga_pr D (g_X7_turned_j28 x2 x3 x4 s0 D) := by
  unfold g_X7_turned_j28
  refine pr_ite (fun c32 => ?_) (fun c32 => ?_)
  refine pr_ck (fun ha50 => ?_)
  refine pr_ite (fun c52 => ?_) (fun c52 => ?_)
  exact pr_some
  exact pr_some
  exact pr_some
theorem g_X7_turned_pr {x1 x2 x3 : Int} {D : ga_D} : ga_pr D (g_X7_turned x1 x2 x3 D) := by
  unfold g_X7_turned
  refine pr_let (fun v5 => ?_)
  refine pr_ck (fun ha13 => ?_)
  refine pr_ite (fun c14 => ?_) (fun c14 => ?_)
  refine g_X7_turned_j28_pr _ _ _ _ _ 
  refine pr_ck (fun ha23 => ?_)
  refine g_X7_turned_j28_pr _ _ _ _ _ 
theorem g_X7_shareOf_l36_pr  {k76 : Int → ga_D → ga_S} (hk76 : ∀ (x4 : Int) (D : ga_D), ga_pr D (k76 x4 D)) : ∀ (n : Nat) (x1 x2 x4 x5 : Int) (D : ga_D), ga_pr D (g_X7_shareOf_l36 n x1 x2 x4 x5 D k76) := by
  intro n
  induction n with
  | zero => intro x1 x2 x4 x5 D; exact pr_none
  | succ n ih =>
    intro x1 x2 x4 x5 D
    show ga_pr D (ga_ck (0 ≤ x1 ∧ x1 < 3) (if aw_w32 ((D 4115 x1) - 1) ≤ x5 then (k76 x4 D) else (ga_ck (0 ≤ aw_w32 ((aw_w32 ((aw_w32 (9 * x1)) + (aw_w32 (3 * x2)))) + x5) ∧ aw_w32 ((aw_w32 ((aw_w32 (9 * x1)) + (aw_w32 (3 * x2)))) + x5) < 27) (ga_let (aw_w32 (x4 - (D 4117 (aw_w32 ((aw_w32 ((aw_w32 (9 * x1)) + (aw_w32 (3 * x2)))) + x5))))) (fun v68 => ga_let (aw_w32 (x5 + 1)) (fun v70 => g_X7_shareOf_l36 n x1 x2 v68 v70 D k76))))))
    refine pr_ck (fun ha43 => ?_)
    refine pr_ite (fun c46 => ?_) (fun c46 => ?_)
    exact hk76 _ _ 
    refine pr_ck (fun ha66 => ?_)
    refine pr_let (fun v68 => ?_)
    refine pr_let (fun v70 => ?_)
    exact ih _ _ _ _ _ 
theorem g_X7_shareOf_pr {x1 x2 x3 : Int} {D : ga_D} : ga_pr D (g_X7_shareOf x1 x2 x3 D) := by
  unfold g_X7_shareOf
  refine pr_ck (fun ha6 => ?_)
  refine pr_ite (fun c9 => ?_) (fun c9 => ?_)
  refine g_X7_shareOf_l36_pr (fun x4 D76 => ?_) _ _ _ _ _ _ 
  exact pr_some
  refine pr_ck (fun ha26 => ?_)
  exact pr_some
theorem g_X7_goesOut_l18_pr  {k101 : Int → Int → Int → Int → Int → ga_D → ga_S} (hk101 : ∀ (x1 x2 x3 x4 x5 : Int) (D : ga_D), ga_pr D (k101 x1 x2 x3 x4 x5 D)) : ∀ (n : Nat) (x1 x2 x3 x4 x5 x6 : Int) (D : ga_D), ga_pr D (g_X7_goesOut_l18 n x1 x2 x3 x4 x5 x6 D k101) := by
  intro n
  induction n with
  | zero => intro x1 x2 x3 x4 x5 x6 D; exact pr_none
  | succ n ih =>
    intro x1 x2 x3 x4 x5 x6 D
    show ga_pr D (ga_ck (0 ≤ x1 ∧ x1 < 3) (if D 4115 x1 ≤ x6 then (k101 x1 x2 x3 x4 x5 D) else (ga_bind (g_X7_turned x1 x2 x5 D) (fun r34 D34 => if r34 ≤ 0 then (k101 x1 x2 x3 x4 x5 D34) else (ga_ck (0 ≤ aw_w32 ((aw_w32 (3 * x1)) + x6) ∧ aw_w32 ((aw_w32 (3 * x1)) + x6) < 9) (ga_let (D34 4116 (aw_w32 ((aw_w32 (3 * x1)) + x6))) (fun v51 => ga_bind (g_X7_shareOf x1 x5 x6 D34) (fun r61 D61 => if r61 ≤ 0 then (ga_let (aw_or x4 0) (fun v93 => ga_let (aw_w32 (x6 + 1)) (fun v95 => g_X7_goesOut_l18 n x1 x2 x3 v93 x5 v95 D61 k101))) else (if v51 < 0 then (ga_let (aw_or x4 1) (fun v93 => ga_let (aw_w32 (x6 + 1)) (fun v95 => g_X7_goesOut_l18 n x1 x2 x3 v93 x5 v95 D61 k101))) else (if aw_and (aw_shr x3 (aw_w32 ((aw_w32 (3 * v51)) + x5))) 1 ≠ 1 then (ga_let (aw_or x4 0) (fun v93 => ga_let (aw_w32 (x6 + 1)) (fun v95 => g_X7_goesOut_l18 n x1 x2 x3 v93 x5 v95 D61 k101))) else (ga_let (aw_or x4 1) (fun v93 => ga_let (aw_w32 (x6 + 1)) (fun v95 => g_X7_goesOut_l18 n x1 x2 x3 v93 x5 v95 D61 k101)))))))))))))
    refine pr_ck (fun ha25 => ?_)
    refine pr_ite (fun c26 => ?_) (fun c26 => ?_)
    exact hk101 _ _ _ _ _ _ 
    refine pr_bind (g_X7_turned_pr) (fun r34 D34 => ?_)
    refine pr_ite (fun c37 => ?_) (fun c37 => ?_)
    exact hk101 _ _ _ _ _ _ 
    refine pr_ck (fun ha50 => ?_)
    refine pr_let (fun v51 => ?_)
    refine pr_bind (g_X7_shareOf_pr) (fun r61 D61 => ?_)
    refine pr_ite (fun c64 => ?_) (fun c64 => ?_)
    refine pr_let (fun v93 => ?_)
    refine pr_let (fun v95 => ?_)
    exact ih _ _ _ _ _ _ _ 
    refine pr_ite (fun c69 => ?_) (fun c69 => ?_)
    refine pr_let (fun v93 => ?_)
    refine pr_let (fun v95 => ?_)
    exact ih _ _ _ _ _ _ _ 
    refine pr_ite (fun c84 => ?_) (fun c84 => ?_)
    refine pr_let (fun v93 => ?_)
    refine pr_let (fun v95 => ?_)
    exact ih _ _ _ _ _ _ _ 
    refine pr_let (fun v93 => ?_)
    refine pr_let (fun v95 => ?_)
    exact ih _ _ _ _ _ _ _ 
theorem g_X7_goesOut_l6_pr  {k107 : Int → ga_D → ga_S} (hk107 : ∀ (x4 : Int) (D : ga_D), ga_pr D (k107 x4 D)) : ∀ (n : Nat) (x1 x2 x3 x4 x5 : Int) (D : ga_D), ga_pr D (g_X7_goesOut_l6 n x1 x2 x3 x4 x5 D k107) := by
  intro n
  induction n with
  | zero => intro x1 x2 x3 x4 x5 D; exact pr_none
  | succ n ih =>
    intro x1 x2 x3 x4 x5 D
    show ga_pr D (if D 4114 0 ≤ x5 then (k107 x4 D) else (g_X7_goesOut_l18 aw_fu x1 x2 x3 x4 x5 0 D (fun x1 x2 x3 x4 x5 D101 => ga_let (aw_w32 (x5 + 1)) (fun v101 => g_X7_goesOut_l6 n x1 x2 x3 x4 v101 D101 k107))))
    refine pr_ite (fun c12 => ?_) (fun c12 => ?_)
    exact hk107 _ _ 
    refine g_X7_goesOut_l18_pr (fun x1 x2 x3 x4 x5 D101 => ?_) _ _ _ _ _ _ _ _ 
    refine pr_let (fun v101 => ?_)
    exact ih _ _ _ _ _ _ 
theorem g_X7_goesOut_pr {x1 x2 x3 : Int} {D : ga_D} : ga_pr D (g_X7_goesOut x1 x2 x3 D) := by
  unfold g_X7_goesOut
  refine g_X7_goesOut_l6_pr (fun x4 D107 => ?_) _ _ _ _ _ _ _ 
  refine pr_ck (fun hr109 => ?_)
  exact pr_some
theorem g_X7_loop_l25_pr  {k68 : Int → Int → Int → ga_D → ga_S} (hk68 : ∀ (x1 x3 x4 : Int) (D : ga_D), ga_pr D (k68 x1 x3 x4 D)) : ∀ (n : Nat) (x1 x3 x4 x5 : Int) (D : ga_D), ga_pr D (g_X7_loop_l25 n x1 x3 x4 x5 D k68) := by
  intro n
  induction n with
  | zero => intro x1 x3 x4 x5 D; exact pr_none
  | succ n ih =>
    intro x1 x3 x4 x5 D
    show ga_pr D (if D 4114 0 ≤ x5 then (k68 x1 x3 x4 D) else (ga_bind (g_X7_goesOut x4 x5 x3 D) (fun r41 D41 => if r41 = 0 then (ga_let (aw_or x1 0) (fun v61 => ga_let (aw_w32 (x5 + 1)) (fun v62 => g_X7_loop_l25 n v61 x3 x4 v62 D41 k68))) else (ga_let (aw_or x1 (aw_shl 1 (aw_w32 ((aw_w32 (3 * x4)) + x5)))) (fun v61 => ga_let (aw_w32 (x5 + 1)) (fun v62 => g_X7_loop_l25 n v61 x3 x4 v62 D41 k68))))))
    refine pr_ite (fun c31 => ?_) (fun c31 => ?_)
    exact hk68 _ _ _ _ 
    refine pr_bind (g_X7_goesOut_pr) (fun r41 D41 => ?_)
    refine pr_ite (fun c44 => ?_) (fun c44 => ?_)
    refine pr_let (fun v61 => ?_)
    refine pr_let (fun v62 => ?_)
    exact ih _ _ _ _ _ 
    refine pr_let (fun v61 => ?_)
    refine pr_let (fun v62 => ?_)
    exact ih _ _ _ _ _ 
theorem g_X7_loop_l13_pr  {k74 : Int → Int → ga_D → ga_S} (hk74 : ∀ (x1 x3 : Int) (D : ga_D), ga_pr D (k74 x1 x3 D)) : ∀ (n : Nat) (x1 x3 x4 : Int) (D : ga_D), ga_pr D (g_X7_loop_l13 n x1 x3 x4 D k74) := by
  intro n
  induction n with
  | zero => intro x1 x3 x4 D; exact pr_none
  | succ n ih =>
    intro x1 x3 x4 D
    show ga_pr D (if D 4114 1 ≤ x4 then (k74 x1 x3 D) else (g_X7_loop_l25 aw_fu x1 x3 x4 0 D (fun x1 x3 x4 D68 => ga_let (aw_w32 (x4 + 1)) (fun v68 => g_X7_loop_l13 n x1 x3 v68 D68 k74))))
    refine pr_ite (fun c19 => ?_) (fun c19 => ?_)
    exact hk74 _ _ _ 
    refine g_X7_loop_l25_pr (fun x1 x3 x4 D68 => ?_) _ _ _ _ _ _ 
    refine pr_let (fun v68 => ?_)
    exact ih _ _ _ _ 
theorem g_X7_loop_l4_pr  {k88 : Int → ga_D → ga_S} (hk88 : ∀ (x1 : Int) (D : ga_D), ga_pr D (k88 x1 D)) : ∀ (n : Nat) (x1 x2 : Int) (D : ga_D), ga_pr D (g_X7_loop_l4 n x1 x2 D k88) := by
  intro n
  induction n with
  | zero => intro x1 x2 D; exact pr_none
  | succ n ih =>
    intro x1 x2 D
    show ga_pr D (if x2 = 0 then (k88 x1 D) else (g_X7_loop_l13 aw_fu x1 x1 0 D (fun x1 x3 D74 => if x1 = x3 then (g_X7_loop_l4 n x1 0 D74 k88) else (g_X7_loop_l4 n x1 1 D74 k88))))
    refine pr_ite (fun c5 => ?_) (fun c5 => ?_)
    exact hk88 _ _ 
    refine g_X7_loop_l13_pr (fun x1 x3 D74 => ?_) _ _ _ _ _ 
    refine pr_ite (fun c76 => ?_) (fun c76 => ?_)
    exact ih _ _ _ 
    exact ih _ _ _ 
theorem g_X7_loop_l101_pr  {k123 : Int → ga_D → ga_S} {k131 : Int → Int → ga_D → ga_S} (hk123 : ∀ (x3 : Int) (D : ga_D), ga_pr D (k123 x3 D)) (hk131 : ∀ (x1 x3 : Int) (D : ga_D), ga_pr D (k131 x1 x3 D)) : ∀ (n : Nat) (x1 x3 x4 : Int) (D : ga_D), ga_pr D (g_X7_loop_l101 n x1 x3 x4 D k123 k131) := by
  intro n
  induction n with
  | zero => intro x1 x3 x4 D; exact pr_none
  | succ n ih =>
    intro x1 x3 x4 D
    show ga_pr D (if D 4114 0 ≤ x4 then (k131 x1 x3 D) else (if aw_and (aw_shr x1 (aw_w32 ((aw_w32 (3 * x3)) + x4))) 1 ≠ 0 then (ga_let (aw_w32 (x4 + 1)) (fun v125 => g_X7_loop_l101 n x1 x3 v125 D k123 k131)) else (k123 x3 D)))
    refine pr_ite (fun c107 => ?_) (fun c107 => ?_)
    exact hk131 _ _ _ 
    refine pr_ite (fun c120 => ?_) (fun c120 => ?_)
    refine pr_let (fun v125 => ?_)
    exact ih _ _ _ _ 
    exact hk123 _ _ 
theorem g_X7_loop_l90_pr  {k123 : Int → ga_D → ga_S} {k137 : ga_D → ga_S} (hk123 : ∀ (x3 : Int) (D : ga_D), ga_pr D (k123 x3 D)) (hk137 : ∀ (D : ga_D), ga_pr D (k137 D)) : ∀ (n : Nat) (x1 x3 : Int) (D : ga_D), ga_pr D (g_X7_loop_l90 n x1 x3 D k123 k137) := by
  intro n
  induction n with
  | zero => intro x1 x3 D; exact pr_none
  | succ n ih =>
    intro x1 x3 D
    show ga_pr D (if D 4114 1 ≤ x3 then (k137 D) else (g_X7_loop_l101 aw_fu x1 x3 0 D (fun x3 D123 => k123 x3 D123) (fun x1 x3 D131 => ga_let (aw_w32 (x3 + 1)) (fun v131 => g_X7_loop_l90 n x1 v131 D131 k123 k137))))
    refine pr_ite (fun c95 => ?_) (fun c95 => ?_)
    exact hk137 _ 
    refine g_X7_loop_l101_pr (fun x3 D123 => ?_) (fun x1 x3 D131 => ?_) _ _ _ _ _ 
    exact hk123 _ _ 
    refine pr_let (fun v131 => ?_)
    exact ih _ _ _ 
theorem g_X7_loop_pr {D : ga_D} : ga_pr D (g_X7_loop D) := by
  unfold g_X7_loop
  refine g_X7_loop_l4_pr (fun x1 D88 => ?_) _ _ _ _ 
  refine g_X7_loop_l90_pr (fun x3 D123 => ?_) (fun D137 => ?_) _ _ _ _ 
  exact pr_some
  exact pr_some
theorem g_X8_begin_l7_pr  {k29 : ga_D → ga_S} (hk29 : ∀ (D : ga_D), ga_pr D (k29 D)) : ∀ (n : Nat) (x2 : Int) (D : ga_D), ga_pr D (g_X8_begin_l7 n x2 D k29) := by
  intro n
  induction n with
  | zero => intro x2 D; exact pr_none
  | succ n ih =>
    intro x2 D
    show ga_pr D (if 90 ≤ x2 then (k29 D) else (ga_ck (0 ≤ x2 ∧ x2 < 90) (ga_bind (g_X10_set ((2 * x2 + 4142)) 0 D) (fun r20 D20 => ga_let (aw_w32 (x2 + 1)) (fun v23 => g_X8_begin_l7 n v23 D20 k29)))))
    refine pr_ite (fun c10 => ?_) (fun c10 => ?_)
    exact hk29 _ 
    refine pr_ck (fun ha18 => ?_)
    refine pr_bind (g_X10_set_pr) (fun r20 D20 => ?_)
    refine pr_let (fun v23 => ?_)
    exact ih _ _ 
theorem g_X8_begin_pr {x1 : Int} {D : ga_D} : ga_pr D (g_X8_begin x1 D) := by
  unfold g_X8_begin
  refine pr_upd (ga_Pn K_4124 rfl) (fun D2 => ?_)
  refine g_X8_begin_l7_pr (fun D29 => ?_) _ _ _ 
  exact pr_some
theorem g_X10_trim_l5_pr  {k39 : Int → ga_D → ga_S} (hk39 : ∀ (x0 : Int) (D : ga_D), ga_pr D (k39 x0 D)) : ∀ (n : Nat) (x0 : Int) (D : ga_D), ga_pr D (g_X10_trim_l5 n x0 D k39) := by
  intro n
  induction n with
  | zero => intro x0 D; exact pr_none
  | succ n ih =>
    intro x0 D
    show ga_pr D (ga_ck (ga_K x0 = (9, 0)) (if D x0 1 ≤ 0 then (k39 x0 D) else (ga_ck (0 ≤ aw_w32 ((D x0 1) - 1) ∧ aw_w32 ((D x0 1) - 1) < 48) (if D ((x0 + 1)) (aw_w32 ((D x0 1) - 1)) ≠ 0 then (k39 x0 D) else (ga_let (ga_set D x0 1 (aw_w32 ((D x0 1) - 1))) (fun D33 => g_X10_trim_l5 n x0 D33 k39))))))
    refine pr_ck (fun hk6_0 => ?_)
    refine pr_ite (fun c9 => ?_) (fun c9 => ?_)
    exact hk39 _ _ 
    refine pr_ck (fun ha22 => ?_)
    refine pr_ite (fun c23 => ?_) (fun c23 => ?_)
    exact hk39 _ _ 
    refine pr_upd (ga_Pn hk6_0 rfl) (fun D33 => ?_)
    exact ih _ _ 
theorem g_X10_trim_j39_pr  (x0 : Int) (D : ga_D) : ga_pr D (g_X10_trim_j39 x0 D) := by
  unfold g_X10_trim_j39
  refine pr_ck (fun hk41_0 => ?_)
  refine pr_ite (fun c48 => ?_) (fun c48 => ?_)
  refine pr_ck (fun hp57 => ?_)
  refine pr_upd (ga_Pn hk41_0 rfl) (fun D57 => ?_)
  exact pr_some
  refine pr_ck (fun hp57 => ?_)
  refine pr_upd (ga_Pn hk41_0 rfl) (fun D57 => ?_)
  exact pr_some
theorem g_X10_trim_pr {x0 x1 : Int} {D : ga_D} : ga_pr D (g_X10_trim x0 x1 D) := by
  unfold g_X10_trim
  refine pr_ck (fun hk2_0 => ?_)
  refine pr_upd (ga_Pn hk2_0 rfl) (fun D2 => ?_)
  refine g_X10_trim_l5_pr (fun x0 D39 => ?_) _ _ _ 
  refine g_X10_trim_j39_pr _ _ 
theorem g_X9_multiply_l13_pr  {k33 : Int → Int → Int → Int → ga_D → ga_S} (hk33 : ∀ (x0 x1 x2 x3 : Int) (D : ga_D), ga_pr D (k33 x0 x1 x2 x3 D)) : ∀ (n : Nat) (x0 x1 x2 x3 x4 : Int) (D : ga_D), ga_pr D (g_X9_multiply_l13 n x0 x1 x2 x3 x4 D k33) := by
  intro n
  induction n with
  | zero => intro x0 x1 x2 x3 x4 D; exact pr_none
  | succ n ih =>
    intro x0 x1 x2 x3 x4 D
    show ga_pr D (if x3 ≤ x4 then (k33 x0 x1 x2 x3 D) else (ga_ck (ga_K x2 = (9, 0)) (ga_ck (0 ≤ x4 ∧ x4 < 48) (ga_let (ga_set D ((x2 + 1)) x4 0) (fun D26 => ga_let (aw_w32 (x4 + 1)) (fun v27 => g_X9_multiply_l13 n x0 x1 x2 x3 v27 D26 k33))))))
    refine pr_ite (fun c16 => ?_) (fun c16 => ?_)
    exact hk33 _ _ _ _ _ 
    refine pr_ck (fun hk20_0 => ?_)
    refine pr_ck (fun ha26 => ?_)
    refine pr_upd (ga_Pn (KO_9_1 hk20_0) rfl) (fun D26 => ?_)
    refine pr_let (fun v27 => ?_)
    exact ih _ _ _ _ _ _ 
theorem g_X9_multiply_l51_pr  {k124 : Int → Int → Int → Int → Int → Int → ga_D → ga_S} (hk124 : ∀ (x0 x1 x2 x3 x4 x5 : Int) (D : ga_D), ga_pr D (k124 x0 x1 x2 x3 x4 x5 D)) : ∀ (n : Nat) (x0 x1 x2 x3 x4 x5 x7 : Int) (D : ga_D), ga_pr D (g_X9_multiply_l51 n x0 x1 x2 x3 x4 x5 x7 D k124) := by
  intro n
  induction n with
  | zero => intro x0 x1 x2 x3 x4 x5 x7 D; exact pr_none
  | succ n ih =>
    intro x0 x1 x2 x3 x4 x5 x7 D
    show ga_pr D (ga_ck (ga_K x1 = (9, 0)) (if D x1 1 ≤ x7 then (k124 x0 x1 x2 x3 x4 x5 D) else (ga_ck (ga_K x0 = (9, 0)) (ga_ck (0 ≤ x4 ∧ x4 < 48) (ga_ck (0 ≤ x7 ∧ x7 < 48) (ga_ck (ga_K x2 = (9, 0)) (ga_ck (0 ≤ aw_w32 (x4 + x7) ∧ aw_w32 (x4 + x7) < 48) (ga_let (aw_w64 (x5 + (aw_w64 ((aw_w64 ((D ((x0 + 1)) x4) * (D ((x1 + 1)) x7))) + (D ((x2 + 1)) (aw_w32 (x4 + x7))))))) (fun v92 => ga_ck (0 ≤ aw_w32 (x4 + x7) ∧ aw_w32 (x4 + x7) < 48) (ga_let (ga_set D ((x2 + 1)) (aw_w32 (x4 + x7)) (aw_w32 (aw_land v92 65535))) (fun D110 => ga_let (aw_lshr v92 16) (fun v116 => ga_let (aw_w32 (x7 + 1)) (fun v118 => g_X9_multiply_l51 n x0 x1 x2 x3 x4 v116 v118 D110 k124)))))))))))))
    refine pr_ck (fun hk54_0 => ?_)
    refine pr_ite (fun c57 => ?_) (fun c57 => ?_)
    exact hk124 _ _ _ _ _ _ _ 
    refine pr_ck (fun hk63_0 => ?_)
    refine pr_ck (fun ha68 => ?_)
    refine pr_ck (fun ha76 => ?_)
    refine pr_ck (fun hk80_1 => ?_)
    refine pr_ck (fun ha88 => ?_)
    refine pr_let (fun v92 => ?_)
    refine pr_ck (fun ha110 => ?_)
    refine pr_upd (ga_Pn (KO_9_1 hk80_1) rfl) (fun D110 => ?_)
    refine pr_let (fun v116 => ?_)
    refine pr_let (fun v118 => ?_)
    exact ih _ _ _ _ _ _ _ _ 
theorem g_X9_multiply_l36_pr  {k145 : Int → Int → Int → Int → ga_D → ga_S} (hk145 : ∀ (x0 x1 x2 x3 : Int) (D : ga_D), ga_pr D (k145 x0 x1 x2 x3 D)) : ∀ (n : Nat) (x0 x1 x2 x3 x4 : Int) (D : ga_D), ga_pr D (g_X9_multiply_l36 n x0 x1 x2 x3 x4 D k145) := by
  intro n
  induction n with
  | zero => intro x0 x1 x2 x3 x4 D; exact pr_none
  | succ n ih =>
    intro x0 x1 x2 x3 x4 D
    show ga_pr D (ga_ck (ga_K x0 = (9, 0)) (if D x0 1 ≤ x4 then (k145 x0 x1 x2 x3 D) else (g_X9_multiply_l51 aw_fu x0 x1 x2 x3 x4 0 0 D (fun x0 x1 x2 x3 x4 x5 D124 => ga_ck (ga_K x2 = (9, 0)) (ga_ck (ga_K x1 = (9, 0)) (ga_ck (0 ≤ aw_w32 (x4 + (D124 x1 1)) ∧ aw_w32 (x4 + (D124 x1 1)) < 48) (ga_let (ga_set D124 ((x2 + 1)) (aw_w32 (x4 + (D124 x1 1))) (aw_w32 x5)) (fun D138 => ga_let (aw_w32 (x4 + 1)) (fun v139 => g_X9_multiply_l36 n x0 x1 x2 x3 v139 D138 k145)))))))))
    refine pr_ck (fun hk39_0 => ?_)
    refine pr_ite (fun c42 => ?_) (fun c42 => ?_)
    exact hk145 _ _ _ _ _ 
    refine g_X9_multiply_l51_pr (fun x0 x1 x2 x3 x4 x5 D124 => ?_) _ _ _ _ _ _ _ _ _ 
    refine pr_ck (fun hk125_0 => ?_)
    refine pr_ck (fun hk131_1 => ?_)
    refine pr_ck (fun ha138 => ?_)
    refine pr_upd (ga_Pn (KO_9_1 hk125_0) rfl) (fun D138 => ?_)
    refine pr_let (fun v139 => ?_)
    exact ih _ _ _ _ _ _ 
theorem g_X9_multiply_j162_pr  (x2 x3 s0 s1 : Int) (D : ga_D) : ga_pr D (g_X9_multiply_j162 x2 x3 s0 s1 D) := by
  unfold g_X9_multiply_j162
  refine pr_ck (fun hk162_0 => ?_)
  refine pr_ck (fun hp162 => ?_)
  refine pr_upd (ga_Pn hk162_0 rfl) (fun D162 => ?_)
  refine pr_bind (g_X10_trim_pr) (fun r167 D167 => ?_)
  refine pr_ck (fun hk167_1 => ?_)
  exact pr_some
theorem g_X9_multiply_pr {x0 x1 x2 : Int} {D : ga_D} : ga_pr D (g_X9_multiply x0 x1 x2 D) := by
  unfold g_X9_multiply
  refine pr_ck (fun hk1_0 => ?_)
  refine pr_ck (fun hk5_1 => ?_)
  refine pr_let (fun v9 => ?_)
  refine g_X9_multiply_l13_pr (fun x0 x1 x2 x3 D33 => ?_) _ _ _ _ _ _ _ 
  refine g_X9_multiply_l36_pr (fun x0 x1 x2 x3 D145 => ?_) _ _ _ _ _ _ _ 
  refine pr_ck (fun hk147_0 => ?_)
  refine pr_ck (fun hk151_1 => ?_)
  refine pr_ite (fun c154 => ?_) (fun c154 => ?_)
  refine g_X9_multiply_j162_pr _ _ _ _ _ 
  refine g_X9_multiply_j162_pr _ _ _ _ _ 
theorem g_X10_isZero_pr {x0 : Int} {D : ga_D} : ga_pr D (g_X10_isZero x0 D) := by
  unfold g_X10_isZero
  refine pr_ck (fun hk1_0 => ?_)
  refine pr_ite (fun c4 => ?_) (fun c4 => ?_)
  exact pr_some
  exact pr_some
theorem g_X8_at_pr {x1 x2 : Int} {D : ga_D} : ga_pr D (g_X8_at x1 x2 D) := by
  unfold g_X8_at
  refine pr_ite (fun c13 => ?_) (fun c13 => ?_)
  refine pr_ck (fun ha23 => ?_)
  exact pr_some
  refine pr_ck (fun ha23 => ?_)
  exact pr_some
theorem g_X10_compareSize_l35_pr  {k60 : Int → Int → Int → ga_D → ga_S} (hk60 : ∀ (x0 x1 x2 : Int) (D : ga_D), ga_pr D (k60 x0 x1 x2 D)) : ∀ (n : Nat) (x0 x1 x2 : Int) (D : ga_D), ga_pr D (g_X10_compareSize_l35 n x0 x1 x2 D k60) := by
  intro n
  induction n with
  | zero => intro x0 x1 x2 D; exact pr_none
  | succ n ih =>
    intro x0 x1 x2 D
    show ga_pr D (if x2 < 0 then (k60 x0 x1 x2 D) else (ga_ck (ga_K x0 = (9, 0)) (ga_ck (0 ≤ x2 ∧ x2 < 48) (ga_ck (ga_K x1 = (9, 0)) (ga_ck (0 ≤ x2 ∧ x2 < 48) (if D ((x0 + 1)) x2 ≠ D ((x1 + 1)) x2 then (k60 x0 x1 x2 D) else (ga_let (aw_w32 (x2 + (-1))) (fun v54 => g_X10_compareSize_l35 n x0 x1 v54 D k60))))))))
    refine pr_ite (fun c36 => ?_) (fun c36 => ?_)
    exact hk60 _ _ _ _ 
    refine pr_ck (fun hk40_0 => ?_)
    refine pr_ck (fun ha44 => ?_)
    refine pr_ck (fun hk46_1 => ?_)
    refine pr_ck (fun ha50 => ?_)
    refine pr_ite (fun c51 => ?_) (fun c51 => ?_)
    exact hk60 _ _ _ _ 
    refine pr_let (fun v54 => ?_)
    exact ih _ _ _ _ 
theorem g_X10_compareSize_j60_pr  (x0 x1 x2 : Int) (D : ga_D) : ga_pr D (g_X10_compareSize_j60 x0 x1 x2 D) := by
  unfold g_X10_compareSize_j60
  refine pr_ite (fun c61 => ?_) (fun c61 => ?_)
  refine pr_ck (fun hk69_0 => ?_)
  refine pr_ck (fun ha73 => ?_)
  refine pr_ck (fun hk75_1 => ?_)
  refine pr_ck (fun ha79 => ?_)
  refine pr_ite (fun c80 => ?_) (fun c80 => ?_)
  exact pr_some
  exact pr_some
  exact pr_some
theorem g_X10_compareSize_pr {x0 x1 : Int} {D : ga_D} : ga_pr D (g_X10_compareSize x0 x1 D) := by
  unfold g_X10_compareSize
  refine pr_ck (fun hk1_0 => ?_)
  refine pr_ck (fun hk5_1 => ?_)
  refine pr_ite (fun c8 => ?_) (fun c8 => ?_)
  refine pr_let (fun v34 => ?_)
  refine g_X10_compareSize_l35_pr (fun x0 x1 x2 D60 => ?_) _ _ _ _ _ 
  refine g_X10_compareSize_j60_pr _ _ _ _ 
  refine pr_ite (fun c19 => ?_) (fun c19 => ?_)
  exact pr_some
  exact pr_some
theorem g_X10_at_pr {x0 x1 : Int} {D : ga_D} : ga_pr D (g_X10_at x0 x1 D) := by
  unfold g_X10_at
  refine pr_ck (fun hk2_0 => ?_)
  refine pr_ite (fun c5 => ?_) (fun c5 => ?_)
  exact pr_some
  refine pr_ck (fun ha13 => ?_)
  exact pr_some
theorem g_X9_subtract_j112_pr  {k58 : Int → Int → Int → Int → Int → Int → Int → ga_D → ga_S} (hk58 : ∀ (x0 x1 x2 x3 x4 x5 x6 : Int) (D : ga_D), ga_pr D (k58 x0 x1 x2 x3 x4 x5 x6 D)) (x0 x1 x2 x3 x4 x6 s0 s1 : Int) (D : ga_D) : ga_pr D (g_X9_subtract_j112 x0 x1 x2 x3 x4 x6 s0 s1 D k58) := by
  unfold g_X9_subtract_j112
  refine pr_let (fun v113 => ?_)
  refine pr_ck (fun hk116_0 => ?_)
  refine pr_ck (fun ha126 => ?_)
  refine pr_upd (ga_Pn (KO_9_1 hk116_0) rfl) (fun D126 => ?_)
  refine pr_let (fun v132 => ?_)
  refine pr_let (fun v134 => ?_)
  exact hk58 _ _ _ _ _ _ _ _ 
theorem g_X9_subtract_l58_pr  {k140 : Int → Int → Int → Int → Int → Int → ga_D → ga_S} (hk140 : ∀ (x0 x1 x2 x3 x4 x5 : Int) (D : ga_D), ga_pr D (k140 x0 x1 x2 x3 x4 x5 D)) : ∀ (n : Nat) (x0 x1 x2 x3 x4 x5 x6 : Int) (D : ga_D), ga_pr D (g_X9_subtract_l58 n x0 x1 x2 x3 x4 x5 x6 D k140) := by
  intro n
  induction n with
  | zero => intro x0 x1 x2 x3 x4 x5 x6 D; exact pr_none
  | succ n ih =>
    intro x0 x1 x2 x3 x4 x5 x6 D
    show ga_pr D (if x4 ≤ x6 then (k140 x0 x1 x2 x3 x4 x5 D) else (ga_bind (g_X10_at x0 x6 D) (fun r68 D68 => ga_ck (ga_K x0 = (9, 0)) (ga_bind (g_X10_at x1 x6 D68) (fun r76 D76 => ga_ck (ga_K x1 = (9, 0)) (if x2 = 0 then (if x3 = 0 then (g_X9_subtract_j112 x0 x1 x2 x3 x4 x6 (aw_w32 (r76 - r68)) x5 D76 (fun x0 x1 x2 x3 x4 x5 x6 D58 => g_X9_subtract_l58 n x0 x1 x2 x3 x4 x5 x6 D58 k140)) else (g_X9_subtract_j112 x0 x1 x2 x3 x4 x6 (aw_w32 (r68 - r76)) x5 D76 (fun x0 x1 x2 x3 x4 x5 x6 D58 => g_X9_subtract_l58 n x0 x1 x2 x3 x4 x5 x6 D58 k140))) else (g_X9_subtract_j112 x0 x1 x2 x3 x4 x6 (aw_w32 (r68 + r76)) x5 D76 (fun x0 x1 x2 x3 x4 x5 x6 D58 => g_X9_subtract_l58 n x0 x1 x2 x3 x4 x5 x6 D58 k140))))))))
    refine pr_ite (fun c62 => ?_) (fun c62 => ?_)
    exact hk140 _ _ _ _ _ _ _ 
    refine pr_bind (g_X10_at_pr) (fun r68 D68 => ?_)
    refine pr_ck (fun hk68_0 => ?_)
    refine pr_bind (g_X10_at_pr) (fun r76 D76 => ?_)
    refine pr_ck (fun hk76_1 => ?_)
    refine pr_ite (fun c84 => ?_) (fun c84 => ?_)
    refine pr_ite (fun c96 => ?_) (fun c96 => ?_)
    refine g_X9_subtract_j112_pr (fun x0 x1 x2 x3 x4 x5 x6 D58 => ?_) _ _ _ _ _ _ _ _ _ 
    exact ih _ _ _ _ _ _ _ _ 
    refine g_X9_subtract_j112_pr (fun x0 x1 x2 x3 x4 x5 x6 D58 => ?_) _ _ _ _ _ _ _ _ _ 
    exact ih _ _ _ _ _ _ _ _ 
    refine g_X9_subtract_j112_pr (fun x0 x1 x2 x3 x4 x5 x6 D58 => ?_) _ _ _ _ _ _ _ _ _ 
    exact ih _ _ _ _ _ _ _ _ 
theorem g_X9_subtract_j209_pr  (x0 x4 s0 : Int) (D : ga_D) : ga_pr D (g_X9_subtract_j209 x0 x4 s0 D) := by
  unfold g_X9_subtract_j209
  refine pr_ck (fun hk214_0 => ?_)
  refine pr_ck (fun hp214 => ?_)
  refine pr_upd (ga_Pn hk214_0 rfl) (fun D214 => ?_)
  refine pr_bind (g_X10_trim_pr) (fun r222 D222 => ?_)
  exact pr_some
theorem g_X9_subtract_j167_pr  (x0 x1 x2 x3 x4 : Int) (D : ga_D) : ga_pr D (g_X9_subtract_j167 x0 x1 x2 x3 x4 D) := by
  unfold g_X9_subtract_j167
  refine pr_ite (fun c168 => ?_) (fun c168 => ?_)
  refine pr_ite (fun c187 => ?_) (fun c187 => ?_)
  refine pr_ck (fun hk198_0 => ?_)
  refine pr_ite (fun c201 => ?_) (fun c201 => ?_)
  refine g_X9_subtract_j209_pr _ _ _ _ 
  refine g_X9_subtract_j209_pr _ _ _ _ 
  refine pr_ck (fun hk191_0 => ?_)
  refine g_X9_subtract_j209_pr _ _ _ _ 
  refine pr_ck (fun hk172_0 => ?_)
  refine pr_ite (fun c175 => ?_) (fun c175 => ?_)
  refine g_X9_subtract_j209_pr _ _ _ _ 
  refine g_X9_subtract_j209_pr _ _ _ _ 
theorem g_X9_subtract_j38_pr  (x0 x1 x2 s0 : Int) (D : ga_D) : ga_pr D (g_X9_subtract_j38 x0 x1 x2 s0 D) := by
  unfold g_X9_subtract_j38
  refine pr_ck (fun hk40_0 => ?_)
  refine pr_ck (fun hk44_1 => ?_)
  refine pr_let (fun v50 => ?_)
  refine g_X9_subtract_l58_pr (fun x0 x1 x2 x3 x4 x5 D140 => ?_) _ _ _ _ _ _ _ _ _ 
  refine pr_ck (fun hk141_0 => ?_)
  refine pr_ck (fun ha148 => ?_)
  refine pr_upd (ga_Pn (KO_9_1 hk141_0) rfl) (fun D148 => ?_)
  refine pr_ite (fun c150 => ?_) (fun c150 => ?_)
  refine g_X9_subtract_j167_pr _ _ _ _ _ _ 
  refine pr_bind (g_X10_isZero_pr) (fun r154 D154 => ?_)
  refine pr_ite (fun c157 => ?_) (fun c157 => ?_)
  refine g_X9_subtract_j167_pr _ _ _ _ _ _ 
  refine g_X9_subtract_j209_pr _ _ _ _ 
theorem g_X9_subtract_j24_pr  (x0 x1 s0 : Int) (D : ga_D) : ga_pr D (g_X9_subtract_j24 x0 x1 s0 D) := by
  unfold g_X9_subtract_j24
  refine pr_bind (g_X10_compareSize_pr) (fun r27 D27 => ?_)
  refine pr_ck (fun hk27_0 => ?_)
  refine pr_ite (fun c30 => ?_) (fun c30 => ?_)
  refine g_X9_subtract_j38_pr _ _ _ _ _ 
  refine g_X9_subtract_j38_pr _ _ _ _ _ 
theorem g_X9_subtract_pr {x0 x1 : Int} {D : ga_D} : ga_pr D (g_X9_subtract x0 x1 D) := by
  unfold g_X9_subtract
  refine pr_bind (g_X10_isZero_pr) (fun r1 D1 => ?_)
  refine pr_ck (fun hk1_0 => ?_)
  refine pr_ite (fun c4 => ?_) (fun c4 => ?_)
  refine pr_ck (fun hk9_0 => ?_)
  refine pr_ite (fun c16 => ?_) (fun c16 => ?_)
  refine g_X9_subtract_j24_pr _ _ _ _ 
  refine g_X9_subtract_j24_pr _ _ _ _ 
  exact pr_some
theorem g_X8_add_j61_pr  (x1 x2 s0 s1 : Int) (D : ga_D) : ga_pr D (g_X8_add_j61 x1 x2 s0 s1 D) := by
  unfold g_X8_add_j61
  refine pr_ck (fun hk61_0 => ?_)
  refine pr_ck (fun hp61 => ?_)
  refine pr_upd (ga_Pn hk61_0 rfl) (fun D61 => ?_)
  refine pr_bind (g_X8_at_pr) (fun r67 D67 => ?_)
  refine pr_bind (g_X9_subtract_pr) (fun r74 D74 => ?_)
  exact pr_some
theorem g_X8_add_j60_pr  (x1 x2 s0 : Int) (D : ga_D) : ga_pr D (g_X8_add_j60 x1 x2 s0 D) := by
  unfold g_X8_add_j60
  refine g_X8_add_j61_pr _ _ _ _ _ 
theorem g_X8_add_pr {x1 x2 x3 x4 : Int} {D : ga_D} : ga_pr D (g_X8_add x1 x2 x3 x4 D) := by
  unfold g_X8_add
  refine pr_bind (g_X10_set_pr) (fun r5 D5 => ?_)
  refine pr_bind (g_X10_set_pr) (fun r14 D14 => ?_)
  refine pr_bind (g_X9_multiply_pr) (fun r29 D29 => ?_)
  refine pr_ite (fun c43 => ?_) (fun c43 => ?_)
  refine g_X8_add_j60_pr _ _ _ _ 
  refine pr_bind (g_X10_isZero_pr) (fun r50 D50 => ?_)
  refine pr_ite (fun c53 => ?_) (fun c53 => ?_)
  refine g_X8_add_j60_pr _ _ _ _ 
  refine g_X8_add_j61_pr _ _ _ _ _ 
theorem g_X10_copy_pr {x0 x1 : Int} {D : ga_D} : ga_pr D (g_X10_copy x0 x1 D) := by
  unfold g_X10_copy
  refine pr_ck (fun hk1_0 => ?_)
  refine pr_ck (fun hk6_1 => ?_)
  refine pr_ck (fun ha14 => ?_)
  refine pr_cpy (fun _ => ga_Pn (KO_9_1 hk6_1) rfl) (fun D14 => ?_)
  refine pr_upd (ga_Pn hk6_1 rfl) (fun D22 => ?_)
  refine pr_ck (fun hp30 => ?_)
  refine pr_upd (ga_Pn hk6_1 rfl) (fun D30 => ?_)
  exact pr_some
theorem g_X7_scale_pr {x1 x2 : Int} {D : ga_D} : ga_pr D (g_X7_scale x1 x2 D) := by
  unfold g_X7_scale
  refine pr_bind (g_X10_set_pr) (fun r5 D5 => ?_)
  refine pr_bind (g_X9_multiply_pr) (fun r17 D17 => ?_)
  refine pr_bind (g_X10_copy_pr) (fun r25 D25 => ?_)
  refine pr_ck (fun hk25_0 => ?_)
  exact pr_some
theorem g_X7_layOut_j105_pr  {k31 : Int → Int → Int → Int → Int → ga_D → ga_S} (hk31 : ∀ (x1 x2 x3 x4 x5 : Int) (D : ga_D), ga_pr D (k31 x1 x2 x3 x4 x5 D)) (x1 x2 x3 x4 x5 x6 s0 : Int) (D : ga_D) : ga_pr D (g_X7_layOut_j105 x1 x2 x3 x4 x5 x6 s0 D k31) := by
  unfold g_X7_layOut_j105
  refine pr_bind (g_X8_add_pr) (fun r128 D128 => ?_)
  refine pr_bind (g_X8_at_pr) (fun r147 D147 => ?_)
  refine pr_bind (g_X7_scale_pr) (fun r152 D152 => ?_)
  refine pr_let (fun v155 => ?_)
  exact hk31 _ _ _ _ _ _ 
theorem g_X7_layOut_j104_pr  {k31 : Int → Int → Int → Int → Int → ga_D → ga_S} (hk31 : ∀ (x1 x2 x3 x4 x5 : Int) (D : ga_D), ga_pr D (k31 x1 x2 x3 x4 x5 D)) (x1 x2 x3 x4 x5 x6 : Int) (D : ga_D) : ga_pr D (g_X7_layOut_j104 x1 x2 x3 x4 x5 x6 D k31) := by
  unfold g_X7_layOut_j104
  refine g_X7_layOut_j105_pr (fun x1 x2 x3 x4 x5 D31 => ?_) _ _ _ _ _ _ _ _ 
  exact hk31 _ _ _ _ _ _ 
theorem g_X7_layOut_l31_pr  {k161 : Int → Int → Int → Int → ga_D → ga_S} (hk161 : ∀ (x1 x2 x3 x4 : Int) (D : ga_D), ga_pr D (k161 x1 x2 x3 x4 D)) : ∀ (n : Nat) (x1 x2 x3 x4 x5 : Int) (D : ga_D), ga_pr D (g_X7_layOut_l31 n x1 x2 x3 x4 x5 D k161) := by
  intro n
  induction n with
  | zero => intro x1 x2 x3 x4 x5 D; exact pr_none
  | succ n ih =>
    intro x1 x2 x3 x4 x5 D
    show ga_pr D (if D 4114 0 ≤ x5 then (k161 x1 x2 x3 x4 D) else (ga_let (aw_w32 ((aw_w32 ((D 4114 0) * x4)) + x5)) (fun v50 => ga_bind (g_X8_add v50 v50 27720 27720 D) (fun r66 D66 => if x1 = 0 then (if x4 ≠ x2 then (g_X7_layOut_j104 x1 x2 x3 x4 x5 v50 D66 (fun x1 x2 x3 x4 x5 D31 => g_X7_layOut_l31 n x1 x2 x3 x4 x5 D31 k161)) else (if x5 ≠ x3 then (g_X7_layOut_j104 x1 x2 x3 x4 x5 v50 D66 (fun x1 x2 x3 x4 x5 D31 => g_X7_layOut_l31 n x1 x2 x3 x4 x5 D31 k161)) else (g_X7_layOut_j105 x1 x2 x3 x4 x5 v50 1 D66 (fun x1 x2 x3 x4 x5 D31 => g_X7_layOut_l31 n x1 x2 x3 x4 x5 D31 k161)))) else (ga_ck (0 ≤ aw_w32 ((aw_w32 (3 * x4)) + x5) ∧ aw_w32 ((aw_w32 (3 * x4)) + x5) < 9) (g_X7_layOut_j105 x1 x2 x3 x4 x5 v50 (D66 4120 (aw_w32 ((aw_w32 (3 * x4)) + x5))) D66 (fun x1 x2 x3 x4 x5 D31 => g_X7_layOut_l31 n x1 x2 x3 x4 x5 D31 k161)))))))
    refine pr_ite (fun c37 => ?_) (fun c37 => ?_)
    exact hk161 _ _ _ _ _ 
    refine pr_let (fun v50 => ?_)
    refine pr_bind (g_X8_add_pr) (fun r66 D66 => ?_)
    refine pr_ite (fun c70 => ?_) (fun c70 => ?_)
    refine pr_ite (fun c91 => ?_) (fun c91 => ?_)
    refine g_X7_layOut_j104_pr (fun x1 x2 x3 x4 x5 D31 => ?_) _ _ _ _ _ _ _ 
    exact ih _ _ _ _ _ _ 
    refine pr_ite (fun c97 => ?_) (fun c97 => ?_)
    refine g_X7_layOut_j104_pr (fun x1 x2 x3 x4 x5 D31 => ?_) _ _ _ _ _ _ _ 
    exact ih _ _ _ _ _ _ 
    refine g_X7_layOut_j105_pr (fun x1 x2 x3 x4 x5 D31 => ?_) _ _ _ _ _ _ _ _ 
    exact ih _ _ _ _ _ _ 
    refine pr_ck (fun ha84 => ?_)
    refine g_X7_layOut_j105_pr (fun x1 x2 x3 x4 x5 D31 => ?_) _ _ _ _ _ _ _ _ 
    exact ih _ _ _ _ _ _ 
theorem g_X7_layOut_l19_pr  {k167 : ga_D → ga_S} (hk167 : ∀ (D : ga_D), ga_pr D (k167 D)) : ∀ (n : Nat) (x1 x2 x3 x4 : Int) (D : ga_D), ga_pr D (g_X7_layOut_l19 n x1 x2 x3 x4 D k167) := by
  intro n
  induction n with
  | zero => intro x1 x2 x3 x4 D; exact pr_none
  | succ n ih =>
    intro x1 x2 x3 x4 D
    show ga_pr D (if D 4114 1 ≤ x4 then (k167 D) else (g_X7_layOut_l31 aw_fu x1 x2 x3 x4 0 D (fun x1 x2 x3 x4 D161 => ga_let (aw_w32 (x4 + 1)) (fun v161 => g_X7_layOut_l19 n x1 x2 x3 v161 D161 k167))))
    refine pr_ite (fun c25 => ?_) (fun c25 => ?_)
    exact hk167 _ 
    refine g_X7_layOut_l31_pr (fun x1 x2 x3 x4 D161 => ?_) _ _ _ _ _ _ _ 
    refine pr_let (fun v161 => ?_)
    exact ih _ _ _ _ _ 
theorem g_X7_layOut_l223_pr  {k291 : Int → Int → Int → ga_D → ga_S} (hk291 : ∀ (x4 x5 x6 : Int) (D : ga_D), ga_pr D (k291 x4 x5 x6 D)) : ∀ (n : Nat) (x4 x5 x6 x7 x8 : Int) (D : ga_D), ga_pr D (g_X7_layOut_l223 n x4 x5 x6 x7 x8 D k291) := by
  intro n
  induction n with
  | zero => intro x4 x5 x6 x7 x8 D; exact pr_none
  | succ n ih =>
    intro x4 x5 x6 x7 x8 D
    show ga_pr D (if D 4114 0 ≤ x8 then (k291 x4 x5 x6 D) else (if x7 < 0 then (k291 x4 x5 x6 D) else (ga_bind (g_X7_turned x4 x5 x8 D) (fun r268 D268 => ga_bind (g_X7_shareOf x4 x8 x6 D268) (fun r279 D279 => ga_bind (g_X8_add (aw_w32 ((aw_w32 ((D 4114 0) * x7)) + x8)) (aw_w32 ((aw_w32 ((D 4114 0) * x4)) + x5)) (aw_w32 (-r268)) r279 D279) (fun r282 D282 => ga_let (aw_w32 (x8 + 1)) (fun v285 => g_X7_layOut_l223 n x4 x5 x6 x7 v285 D282 k291)))))))
    refine pr_ite (fun c229 => ?_) (fun c229 => ?_)
    exact hk291 _ _ _ _ 
    refine pr_ite (fun c234 => ?_) (fun c234 => ?_)
    exact hk291 _ _ _ _ 
    refine pr_bind (g_X7_turned_pr) (fun r268 D268 => ?_)
    refine pr_bind (g_X7_shareOf_pr) (fun r279 D279 => ?_)
    refine pr_bind (g_X8_add_pr) (fun r282 D282 => ?_)
    refine pr_let (fun v285 => ?_)
    exact ih _ _ _ _ _ _ 
theorem g_X7_layOut_l194_pr  {k297 : Int → Int → ga_D → ga_S} (hk297 : ∀ (x4 x5 : Int) (D : ga_D), ga_pr D (k297 x4 x5 D)) : ∀ (n : Nat) (x4 x5 x6 : Int) (D : ga_D), ga_pr D (g_X7_layOut_l194 n x4 x5 x6 D k297) := by
  intro n
  induction n with
  | zero => intro x4 x5 x6 D; exact pr_none
  | succ n ih =>
    intro x4 x5 x6 D
    show ga_pr D (ga_ck (0 ≤ x4 ∧ x4 < 3) (if D 4115 x4 ≤ x6 then (k297 x4 x5 D) else (ga_ck (0 ≤ aw_w32 ((aw_w32 (3 * x4)) + x6) ∧ aw_w32 ((aw_w32 (3 * x4)) + x6) < 9) (ga_let (D 4116 (aw_w32 ((aw_w32 (3 * x4)) + x6))) (fun v218 => g_X7_layOut_l223 aw_fu x4 x5 x6 v218 0 D (fun x4 x5 x6 D291 => ga_let (aw_w32 (x6 + 1)) (fun v291 => g_X7_layOut_l194 n x4 x5 v291 D291 k297)))))))
    refine pr_ck (fun ha202 => ?_)
    refine pr_ite (fun c203 => ?_) (fun c203 => ?_)
    exact hk297 _ _ _ 
    refine pr_ck (fun ha217 => ?_)
    refine pr_let (fun v218 => ?_)
    refine g_X7_layOut_l223_pr (fun x4 x5 x6 D291 => ?_) _ _ _ _ _ _ _ 
    refine pr_let (fun v291 => ?_)
    exact ih _ _ _ _ 
theorem g_X7_layOut_l182_pr  {k303 : Int → ga_D → ga_S} (hk303 : ∀ (x4 : Int) (D : ga_D), ga_pr D (k303 x4 D)) : ∀ (n : Nat) (x4 x5 : Int) (D : ga_D), ga_pr D (g_X7_layOut_l182 n x4 x5 D k303) := by
  intro n
  induction n with
  | zero => intro x4 x5 D; exact pr_none
  | succ n ih =>
    intro x4 x5 D
    show ga_pr D (if D 4114 0 ≤ x5 then (k303 x4 D) else (g_X7_layOut_l194 aw_fu x4 x5 0 D (fun x4 x5 D297 => ga_let (aw_w32 (x5 + 1)) (fun v297 => g_X7_layOut_l182 n x4 v297 D297 k303))))
    refine pr_ite (fun c188 => ?_) (fun c188 => ?_)
    exact hk303 _ _ 
    refine g_X7_layOut_l194_pr (fun x4 x5 D297 => ?_) _ _ _ _ _ 
    refine pr_let (fun v297 => ?_)
    exact ih _ _ _ 
theorem g_X7_layOut_l170_pr  {k309 : ga_D → ga_S} (hk309 : ∀ (D : ga_D), ga_pr D (k309 D)) : ∀ (n : Nat) (x4 : Int) (D : ga_D), ga_pr D (g_X7_layOut_l170 n x4 D k309) := by
  intro n
  induction n with
  | zero => intro x4 D; exact pr_none
  | succ n ih =>
    intro x4 D
    show ga_pr D (if D 4114 1 ≤ x4 then (k309 D) else (g_X7_layOut_l182 aw_fu x4 0 D (fun x4 D303 => ga_let (aw_w32 (x4 + 1)) (fun v303 => g_X7_layOut_l170 n v303 D303 k309))))
    refine pr_ite (fun c176 => ?_) (fun c176 => ?_)
    exact hk309 _ 
    refine g_X7_layOut_l182_pr (fun x4 D303 => ?_) _ _ _ _ 
    refine pr_let (fun v303 => ?_)
    exact ih _ _ 
theorem g_X7_layOut_pr {x1 x2 x3 : Int} {D : ga_D} : ga_pr D (g_X7_layOut x1 x2 x3 D) := by
  unfold g_X7_layOut
  refine pr_bind (g_X8_begin_pr) (fun r13 D13 => ?_)
  refine g_X7_layOut_l19_pr (fun D167 => ?_) _ _ _ _ _ _ 
  refine g_X7_layOut_l170_pr (fun D309 => ?_) _ _ _ 
  exact pr_some
theorem g_X8_swap_l2_pr  {k62 : ga_D → ga_S} (hk62 : ∀ (D : ga_D), ga_pr D (k62 D)) : ∀ (n : Nat) (x1 x2 x3 : Int) (D : ga_D), ga_pr D (g_X8_swap_l2 n x1 x2 x3 D k62) := by
  intro n
  induction n with
  | zero => intro x1 x2 x3 D; exact pr_none
  | succ n ih =>
    intro x1 x2 x3 D
    show ga_pr D (if D 4124 6 < x3 then (k62 D) else (if x1 = x2 then (k62 D) else (ga_bind (g_X8_at x1 x3 D) (fun r22 D22 => ga_bind (g_X10_copy 4138 r22 D22) (fun r25 D25 => ga_bind (g_X8_at x1 x3 D25) (fun r31 D31 => ga_bind (g_X8_at x2 x3 D31) (fun r37 D37 => ga_bind (g_X10_copy r31 r37 D37) (fun r40 D40 => ga_ck (ga_K r31 = (9, 0)) (ga_bind (g_X8_at x2 x3 D40) (fun r46 D46 => ga_bind (g_X10_copy r46 4138 D46) (fun r53 D53 => ga_ck (ga_K r46 = (9, 0)) (ga_let (aw_w32 (x3 + 1)) (fun v56 => g_X8_swap_l2 n x1 x2 v56 D53 k62)))))))))))))
    refine pr_ite (fun c7 => ?_) (fun c7 => ?_)
    exact hk62 _ 
    refine pr_ite (fun c12 => ?_) (fun c12 => ?_)
    exact hk62 _ 
    refine pr_bind (g_X8_at_pr) (fun r22 D22 => ?_)
    refine pr_bind (g_X10_copy_pr) (fun r25 D25 => ?_)
    refine pr_bind (g_X8_at_pr) (fun r31 D31 => ?_)
    refine pr_bind (g_X8_at_pr) (fun r37 D37 => ?_)
    refine pr_bind (g_X10_copy_pr) (fun r40 D40 => ?_)
    refine pr_ck (fun hk40_0 => ?_)
    refine pr_bind (g_X8_at_pr) (fun r46 D46 => ?_)
    refine pr_bind (g_X10_copy_pr) (fun r53 D53 => ?_)
    refine pr_ck (fun hk53_1 => ?_)
    refine pr_let (fun v56 => ?_)
    exact ih _ _ _ _ 
theorem g_X8_swap_pr {x1 x2 : Int} {D : ga_D} : ga_pr D (g_X8_swap x1 x2 D) := by
  unfold g_X8_swap
  refine g_X8_swap_l2_pr (fun D62 => ?_) _ _ _ _ _ 
  exact pr_some
theorem g_X9_cross_pr {x0 x1 x2 x3 x4 x5 : Int} {D : ga_D} : ga_pr D (g_X9_cross x0 x1 x2 x3 x4 x5 D) := by
  unfold g_X9_cross
  refine pr_bind (g_X9_multiply_pr) (fun r4 D4 => ?_)
  refine pr_ck (fun hk11_0 => ?_)
  refine pr_bind (g_X9_multiply_pr) (fun r14 D14 => ?_)
  refine pr_bind (g_X9_subtract_pr) (fun r23 D23 => ?_)
  exact pr_some
theorem g_X9_shifted_pr {x0 x1 x2 : Int} {D : ga_D} : ga_pr D (g_X9_shifted x0 x1 x2 D) := by
  unfold g_X9_shifted
  refine pr_bind (g_X10_at_pr) (fun r2 D2 => ?_)
  refine pr_ck (fun hk2_0 => ?_)
  refine pr_ite (fun c8 => ?_) (fun c8 => ?_)
  refine pr_bind (g_X10_at_pr) (fun r19 D19 => ?_)
  exact pr_some
  exact pr_some
theorem g_X9_digit_l65_pr  {k128 : Int → Int → Int → Int → Int → Int → Int → ga_D → ga_S} (hk128 : ∀ (x0 x1 x2 x3 x4 x8 x10 : Int) (D : ga_D), ga_pr D (k128 x0 x1 x2 x3 x4 x8 x10 D)) : ∀ (n : Nat) (x0 x1 x2 x3 x4 x8 x10 x12 : Int) (D : ga_D), ga_pr D (g_X9_digit_l65 n x0 x1 x2 x3 x4 x8 x10 x12 D k128) := by
  intro n
  induction n with
  | zero => intro x0 x1 x2 x3 x4 x8 x10 x12 D; exact pr_none
  | succ n ih =>
    intro x0 x1 x2 x3 x4 x8 x10 x12 D
    show ga_pr D (if x4 ≤ x12 then (k128 x0 x1 x2 x3 x4 x8 x10 D) else (ga_ck (ga_K x0 = (8, 0)) (ga_ck (0 ≤ aw_w32 (x1 + x12) ∧ aw_w32 (x1 + x12) < 50) (ga_bind (g_X9_shifted x2 x12 x3 D) (fun r90 D90 => ga_let (aw_w64 (x10 + (aw_w64 ((D ((x0 + 7)) (aw_w32 (x1 + x12))) - (aw_w64 (x8 * r90)))))) (fun v97 => ga_ck (0 ≤ aw_w32 (x1 + x12) ∧ aw_w32 (x1 + x12) < 50) (ga_let (ga_set D90 ((x0 + 7)) (aw_w32 (x1 + x12)) (aw_w32 (aw_land v97 65535))) (fun D114 => ga_let (aw_lshr v97 16) (fun v120 => ga_let (aw_w32 (x12 + 1)) (fun v122 => g_X9_digit_l65 n x0 x1 x2 x3 x4 x8 v120 v122 D114 k128))))))))))
    refine pr_ite (fun c69 => ?_) (fun c69 => ?_)
    exact hk128 _ _ _ _ _ _ _ _ 
    refine pr_ck (fun hk75_0 => ?_)
    refine pr_ck (fun ha82 => ?_)
    refine pr_bind (g_X9_shifted_pr) (fun r90 D90 => ?_)
    refine pr_let (fun v97 => ?_)
    refine pr_ck (fun ha114 => ?_)
    refine pr_upd (ga_Pn (KO_8_7 hk75_0) rfl) (fun D114 => ?_)
    refine pr_let (fun v120 => ?_)
    refine pr_let (fun v122 => ?_)
    exact ih _ _ _ _ _ _ _ _ _ 
theorem g_X9_digit_l178_pr  {k234 : Int → Int → Int → Int → Int → Int → Int → Int → ga_D → ga_S} (hk234 : ∀ (x0 x1 x2 x3 x4 x8 x10 x12 : Int) (D : ga_D), ga_pr D (k234 x0 x1 x2 x3 x4 x8 x10 x12 D)) : ∀ (n : Nat) (x0 x1 x2 x3 x4 x8 x10 x12 x13 : Int) (D : ga_D), ga_pr D (g_X9_digit_l178 n x0 x1 x2 x3 x4 x8 x10 x12 x13 D k234) := by
  intro n
  induction n with
  | zero => intro x0 x1 x2 x3 x4 x8 x10 x12 x13 D; exact pr_none
  | succ n ih =>
    intro x0 x1 x2 x3 x4 x8 x10 x12 x13 D
    show ga_pr D (if x4 ≤ x13 then (k234 x0 x1 x2 x3 x4 x8 x10 x12 D) else (ga_ck (ga_K x0 = (8, 0)) (ga_ck (0 ≤ aw_w32 (x1 + x13) ∧ aw_w32 (x1 + x13) < 50) (ga_bind (g_X9_shifted x2 x13 x3 D) (fun r200 D200 => ga_let (aw_w32 (x12 + (aw_w32 ((D ((x0 + 7)) (aw_w32 (x1 + x13))) + r200)))) (fun v205 => ga_ck (0 ≤ aw_w32 (x1 + x13) ∧ aw_w32 (x1 + x13) < 50) (ga_let (ga_set D200 ((x0 + 7)) (aw_w32 (x1 + x13)) (aw_and v205 65535)) (fun D220 => ga_let (aw_shr v205 16) (fun v226 => ga_let (aw_w32 (x13 + 1)) (fun v228 => g_X9_digit_l178 n x0 x1 x2 x3 x4 x8 x10 v226 v228 D220 k234))))))))))
    refine pr_ite (fun c182 => ?_) (fun c182 => ?_)
    exact hk234 _ _ _ _ _ _ _ _ _ 
    refine pr_ck (fun hk188_0 => ?_)
    refine pr_ck (fun ha195 => ?_)
    refine pr_bind (g_X9_shifted_pr) (fun r200 D200 => ?_)
    refine pr_let (fun v205 => ?_)
    refine pr_ck (fun ha220 => ?_)
    refine pr_upd (ga_Pn (KO_8_7 hk188_0) rfl) (fun D220 => ?_)
    refine pr_let (fun v226 => ?_)
    refine pr_let (fun v228 => ?_)
    exact ih _ _ _ _ _ _ _ _ _ _ 
theorem g_X9_digit_l159_pr  {k276 : Int → ga_D → ga_S} (hk276 : ∀ (x8 : Int) (D : ga_D), ga_pr D (k276 x8 D)) : ∀ (n : Nat) (x0 x1 x2 x3 x4 x8 x10 : Int) (D : ga_D), ga_pr D (g_X9_digit_l159 n x0 x1 x2 x3 x4 x8 x10 D k276) := by
  intro n
  induction n with
  | zero => intro x0 x1 x2 x3 x4 x8 x10 D; exact pr_none
  | succ n ih =>
    intro x0 x1 x2 x3 x4 x8 x10 D
    show ga_pr D (if 0 ≤ x10 then (k276 x8 D) else (ga_let (aw_w64 (x8 - 1)) (fun v170 => g_X9_digit_l178 aw_fu x0 x1 x2 x3 x4 v170 x10 0 0 D (fun x0 x1 x2 x3 x4 x8 x10 x12 D234 => ga_ck (ga_K x0 = (8, 0)) (ga_ck (0 ≤ aw_w32 (x1 + x4) ∧ aw_w32 (x1 + x4) < 50) (ga_let (aw_w32 (x12 + (D234 ((x0 + 7)) (aw_w32 (x1 + x4))))) (fun v246 => ga_ck (0 ≤ aw_w32 (x1 + x4) ∧ aw_w32 (x1 + x4) < 50) (ga_let (ga_set D234 ((x0 + 7)) (aw_w32 (x1 + x4)) (aw_and v246 65535)) (fun D261 => ga_let (aw_w64 (x10 + (aw_shr v246 16))) (fun v271 => g_X9_digit_l159 n x0 x1 x2 x3 x4 x8 v271 D261 k276))))))))))
    refine pr_ite (fun c163 => ?_) (fun c163 => ?_)
    exact hk276 _ _ 
    refine pr_let (fun v170 => ?_)
    refine g_X9_digit_l178_pr (fun x0 x1 x2 x3 x4 x8 x10 x12 D234 => ?_) _ _ _ _ _ _ _ _ _ _ _ 
    refine pr_ck (fun hk237_0 => ?_)
    refine pr_ck (fun ha244 => ?_)
    refine pr_let (fun v246 => ?_)
    refine pr_ck (fun ha261 => ?_)
    refine pr_upd (ga_Pn (KO_8_7 hk237_0) rfl) (fun D261 => ?_)
    refine pr_let (fun v271 => ?_)
    exact ih _ _ _ _ _ _ _ _ 
theorem g_X9_digit_pr {x0 x1 x2 x3 : Int} {D : ga_D} : ga_pr D (g_X9_digit x0 x1 x2 x3 D) := by
  unfold g_X9_digit
  refine pr_ck (fun hk1_0 => ?_)
  refine pr_let (fun v4 => ?_)
  refine pr_bind (g_X9_shifted_pr) (fun r12 D12 => ?_)
  refine pr_ck (fun hk18_1 => ?_)
  refine pr_ck (fun ha25 => ?_)
  refine pr_ck (fun ha40 => ?_)
  refine pr_let (fun v43 => ?_)
  refine pr_ck (fun hz50 => ?_)
  refine pr_let (fun v57 => ?_)
  refine g_X9_digit_l65_pr (fun x0 x1 x2 x3 x4 x8 x10 D128 => ?_) _ _ _ _ _ _ _ _ _ _ 
  refine pr_ck (fun hk131_0 => ?_)
  refine pr_ck (fun ha138 => ?_)
  refine pr_let (fun v141 => ?_)
  refine pr_ck (fun ha158 => ?_)
  refine pr_upd (ga_Pn (KO_8_7 hk131_0) rfl) (fun D158 => ?_)
  refine g_X9_digit_l159_pr (fun x8 D276 => ?_) _ _ _ _ _ _ _ _ _ 
  exact pr_some
theorem g_X9_divide_l41_pr  {k100 : Int → Int → Int → Int → Int → Int → Int → ga_D → ga_S} (hk100 : ∀ (x0 x1 x2 x3 x4 x5 x6 : Int) (D : ga_D), ga_pr D (k100 x0 x1 x2 x3 x4 x5 x6 D)) : ∀ (n : Nat) (x0 x1 x2 x3 x4 x5 x6 x7 : Int) (D : ga_D), ga_pr D (g_X9_divide_l41 n x0 x1 x2 x3 x4 x5 x6 x7 D k100) := by
  intro n
  induction n with
  | zero => intro x0 x1 x2 x3 x4 x5 x6 x7 D; exact pr_none
  | succ n ih =>
    intro x0 x1 x2 x3 x4 x5 x6 x7 D
    show ga_pr D (ga_ck (ga_K x1 = (9, 0)) (if D x1 1 < x7 then (k100 x0 x1 x2 x3 x4 x5 x6 D) else (ga_ck (ga_K x0 = (8, 0)) (ga_bind (g_X10_at x1 x7 D) (fun r59 D59 => if x7 ≠ 0 then (ga_ck (0 ≤ aw_w32 (x7 - 1) ∧ aw_w32 (x7 - 1) < 48) (ga_ck (0 ≤ x7 ∧ x7 < 50) (ga_let (ga_set D59 ((x0 + 7)) x7 (aw_and (aw_or (aw_shl r59 x6) (aw_shr (D59 ((x1 + 1)) (aw_w32 (x7 - 1))) (aw_w32 (16 - x6)))) 65535)) (fun D93 => ga_let (aw_w32 (x7 + 1)) (fun v94 => g_X9_divide_l41 n x0 x1 x2 x3 x4 x5 x6 v94 D93 k100))))) else (ga_ck (0 ≤ x7 ∧ x7 < 50) (ga_let (ga_set D59 ((x0 + 7)) x7 (aw_and (aw_or (aw_shl r59 x6) 0) 65535)) (fun D93 => ga_let (aw_w32 (x7 + 1)) (fun v94 => g_X9_divide_l41 n x0 x1 x2 x3 x4 x5 x6 v94 D93 k100)))))))))
    refine pr_ck (fun hk44_0 => ?_)
    refine pr_ite (fun c47 => ?_) (fun c47 => ?_)
    exact hk100 _ _ _ _ _ _ _ _ 
    refine pr_ck (fun hk51_0 => ?_)
    refine pr_bind (g_X10_at_pr) (fun r59 D59 => ?_)
    refine pr_ite (fun c67 => ?_) (fun c67 => ?_)
    refine pr_ck (fun ha82 => ?_)
    refine pr_ck (fun ha93 => ?_)
    refine pr_upd (ga_Pn (KO_8_7 hk51_0) rfl) (fun D93 => ?_)
    refine pr_let (fun v94 => ?_)
    exact ih _ _ _ _ _ _ _ _ _ 
    refine pr_ck (fun ha93 => ?_)
    refine pr_upd (ga_Pn (KO_8_7 hk51_0) rfl) (fun D93 => ?_)
    refine pr_let (fun v94 => ?_)
    exact ih _ _ _ _ _ _ _ _ _ 
theorem g_X9_divide_l106_pr  {k133 : Int → Int → Int → Int → Int → Int → ga_D → ga_S} (hk133 : ∀ (x0 x1 x3 x4 x5 x6 : Int) (D : ga_D), ga_pr D (k133 x0 x1 x3 x4 x5 x6 D)) : ∀ (n : Nat) (x0 x1 x2 x3 x4 x5 x6 x7 : Int) (D : ga_D), ga_pr D (g_X9_divide_l106 n x0 x1 x2 x3 x4 x5 x6 x7 D k133) := by
  intro n
  induction n with
  | zero => intro x0 x1 x2 x3 x4 x5 x6 x7 D; exact pr_none
  | succ n ih =>
    intro x0 x1 x2 x3 x4 x5 x6 x7 D
    show ga_pr D (if x7 < 0 then (k133 x0 x1 x3 x4 x5 x6 D) else (ga_ck (ga_K x3 = (9, 0)) (ga_bind (g_X9_digit x0 x7 x2 x6 D) (fun r123 D123 => ga_ck (ga_K x0 = (8, 0)) (ga_ck (0 ≤ x7 ∧ x7 < 48) (ga_let (ga_set D123 ((x3 + 1)) x7 r123) (fun D126 => ga_let (aw_w32 (x7 + (-1))) (fun v127 => g_X9_divide_l106 n x0 x1 x2 x3 x4 x5 x6 v127 D126 k133))))))))
    refine pr_ite (fun c108 => ?_) (fun c108 => ?_)
    exact hk133 _ _ _ _ _ _ _ 
    refine pr_ck (fun hk112_0 => ?_)
    refine pr_bind (g_X9_digit_pr) (fun r123 D123 => ?_)
    refine pr_ck (fun hk123_1 => ?_)
    refine pr_ck (fun ha126 => ?_)
    refine pr_upd (ga_Pn (KO_9_1 hk112_0) rfl) (fun D126 => ?_)
    refine pr_let (fun v127 => ?_)
    exact ih _ _ _ _ _ _ _ _ _ 
theorem g_X9_divide_l158_pr  {k204 : Int → Int → ga_D → ga_S} (hk204 : ∀ (x1 x7 : Int) (D : ga_D), ga_pr D (k204 x1 x7 D)) : ∀ (n : Nat) (x0 x1 x6 x7 x8 : Int) (D : ga_D), ga_pr D (g_X9_divide_l158 n x0 x1 x6 x7 x8 D k204) := by
  intro n
  induction n with
  | zero => intro x0 x1 x6 x7 x8 D; exact pr_none
  | succ n ih =>
    intro x0 x1 x6 x7 x8 D
    show ga_pr D (if x7 ≤ x8 then (k204 x1 x7 D) else (ga_ck (ga_K x1 = (9, 0)) (ga_ck (ga_K x0 = (8, 0)) (ga_ck (0 ≤ x8 ∧ x8 < 50) (ga_ck (0 ≤ aw_w32 (x8 + 1) ∧ aw_w32 (x8 + 1) < 50) (ga_ck (0 ≤ x8 ∧ x8 < 48) (ga_let (ga_set D ((x1 + 1)) x8 (aw_and (aw_ushr (aw_or (D ((x0 + 7)) x8) (aw_shl (D ((x0 + 7)) (aw_w32 (x8 + 1))) 16)) x6) 65535)) (fun D197 => ga_let (aw_w32 (x8 + 1)) (fun v198 => g_X9_divide_l158 n x0 x1 x6 x7 v198 D197 k204)))))))))
    refine pr_ite (fun c162 => ?_) (fun c162 => ?_)
    exact hk204 _ _ _ 
    refine pr_ck (fun hk166_0 => ?_)
    refine pr_ck (fun hk172_1 => ?_)
    refine pr_ck (fun ha177 => ?_)
    refine pr_ck (fun ha186 => ?_)
    refine pr_ck (fun ha197 => ?_)
    refine pr_upd (ga_Pn (KO_9_1 hk166_0) rfl) (fun D197 => ?_)
    refine pr_let (fun v198 => ?_)
    exact ih _ _ _ _ _ _ 
theorem g_X9_divide_pr {x0 x1 x2 x3 : Int} {D : ga_D} : ga_pr D (g_X9_divide x0 x1 x2 x3 D) := by
  unfold g_X9_divide
  refine pr_ck (fun hk1_0 => ?_)
  refine pr_let (fun v4 => ?_)
  refine pr_ck (fun hk8_1 => ?_)
  refine pr_let (fun v19 => ?_)
  refine pr_ck (fun ha29 => ?_)
  refine pr_bind (g_J25_numberOfLeadingZeros_pr) (fun r30 D30 => ?_)
  refine pr_let (fun v36 => ?_)
  refine g_X9_divide_l41_pr (fun x0 x1 x2 x3 x4 x5 x6 D100 => ?_) _ _ _ _ _ _ _ _ _ _ 
  refine pr_let (fun v104 => ?_)
  refine g_X9_divide_l106_pr (fun x0 x1 x3 x4 x5 x6 D133 => ?_) _ _ _ _ _ _ _ _ _ _ 
  refine pr_ck (fun hk135_0 => ?_)
  refine pr_upd (ga_Pn hk135_0 rfl) (fun D135 => ?_)
  refine pr_bind (g_X10_trim_pr) (fun r141 D141 => ?_)
  refine pr_ck (fun hk147_1 => ?_)
  refine pr_let (fun v153 => ?_)
  refine g_X9_divide_l158_pr (fun x1 x7 D204 => ?_) _ _ _ _ _ _ _ 
  refine pr_bind (g_X10_trim_pr) (fun r207 D207 => ?_)
  refine pr_ck (fun hk207_0 => ?_)
  exact pr_some
theorem g_X9_exact_j16_pr  (x0 x1 x2 s0 : Int) (D : ga_D) : ga_pr D (g_X9_exact_j16 x0 x1 x2 s0 D) := by
  unfold g_X9_exact_j16
  refine pr_ck (fun hk21_0 => ?_)
  refine pr_bind (g_X9_divide_pr) (fun r24 D24 => ?_)
  refine pr_bind (g_X10_copy_pr) (fun r32 D32 => ?_)
  refine pr_ck (fun hk32_1 => ?_)
  refine pr_ite (fun c37 => ?_) (fun c37 => ?_)
  refine pr_upd (ga_Pn hk32_1 rfl) (fun D52 => ?_)
  exact pr_some
  refine pr_bind (g_X10_isZero_pr) (fun r41 D41 => ?_)
  refine pr_ite (fun c44 => ?_) (fun c44 => ?_)
  refine pr_upd (ga_Pn hk32_1 rfl) (fun D52 => ?_)
  exact pr_some
  refine pr_upd (ga_Pn hk32_1 rfl) (fun D52 => ?_)
  exact pr_some
theorem g_X9_exact_pr {x0 x1 x2 : Int} {D : ga_D} : ga_pr D (g_X9_exact x0 x1 x2 D) := by
  unfold g_X9_exact
  refine pr_ck (fun hk1_0 => ?_)
  refine pr_ck (fun hk5_1 => ?_)
  refine pr_ite (fun c8 => ?_) (fun c8 => ?_)
  refine g_X9_exact_j16_pr _ _ _ _ _ 
  refine g_X9_exact_j16_pr _ _ _ _ _ 
theorem g_X8_against_j79_pr  {k15 : Int → Int → Int → ga_D → ga_S} (hk15 : ∀ (x1 x2 x3 : Int) (D : ga_D), ga_pr D (k15 x1 x2 x3 D)) (x1 x2 x3 : Int) (D : ga_D) : ga_pr D (g_X8_against_j79 x1 x2 x3 D k15) := by
  unfold g_X8_against_j79
  refine pr_bind (g_X8_at_pr) (fun r82 D82 => ?_)
  refine pr_bind (g_X10_copy_pr) (fun r89 D89 => ?_)
  refine pr_ck (fun hk89_0 => ?_)
  refine pr_let (fun v92 => ?_)
  exact hk15 _ _ _ _ 
theorem g_X8_against_l15_pr  {k98 : ga_D → ga_S} (hk98 : ∀ (D : ga_D), ga_pr D (k98 D)) : ∀ (n : Nat) (x1 x2 x3 : Int) (D : ga_D), ga_pr D (g_X8_against_l15 n x1 x2 x3 D k98) := by
  intro n
  induction n with
  | zero => intro x1 x2 x3 D; exact pr_none
  | succ n ih =>
    intro x1 x2 x3 D
    show ga_pr D (if D 4124 6 < x3 then (k98 D) else (ga_bind (g_X8_at x1 x3 D) (fun r30 D30 => ga_bind (g_X8_at x2 x3 D30) (fun r44 D44 => ga_bind (g_X9_cross 4125 r30 4136 4140 r44 4138 D44) (fun r51 D51 => ga_bind (g_X10_isZero 4138 D51) (fun r58 D58 => if r58 ≠ 0 then (g_X8_against_j79 x1 x2 x3 D58 (fun x1 x2 x3 D15 => g_X8_against_l15 n x1 x2 x3 D15 k98)) else (ga_bind (g_X9_exact 4125 4138 4134 D58) (fun r76 D76 => g_X8_against_j79 x1 x2 x3 D76 (fun x1 x2 x3 D15 => g_X8_against_l15 n x1 x2 x3 D15 k98)))))))))
    refine pr_ite (fun c20 => ?_) (fun c20 => ?_)
    exact hk98 _ 
    refine pr_bind (g_X8_at_pr) (fun r30 D30 => ?_)
    refine pr_bind (g_X8_at_pr) (fun r44 D44 => ?_)
    refine pr_bind (g_X9_cross_pr) (fun r51 D51 => ?_)
    refine pr_bind (g_X10_isZero_pr) (fun r58 D58 => ?_)
    refine pr_ite (fun c61 => ?_) (fun c61 => ?_)
    refine g_X8_against_j79_pr (fun x1 x2 x3 D15 => ?_) _ _ _ _ 
    exact ih _ _ _ _ 
    refine pr_bind (g_X9_exact_pr) (fun r76 D76 => ?_)
    refine g_X8_against_j79_pr (fun x1 x2 x3 D15 => ?_) _ _ _ _ 
    exact ih _ _ _ _ 
theorem g_X8_against_pr {x1 x2 : Int} {D : ga_D} : ga_pr D (g_X8_against x1 x2 D) := by
  unfold g_X8_against
  refine pr_bind (g_X8_at_pr) (fun r7 D7 => ?_)
  refine pr_bind (g_X10_copy_pr) (fun r10 D10 => ?_)
  refine g_X8_against_l15_pr (fun D98 => ?_) _ _ _ _ _ 
  exact pr_some
theorem g_X8_solve_l20_pr  {k46 : Int → Int → ga_D → ga_S} (hk46 : ∀ (x1 x2 : Int) (D : ga_D), ga_pr D (k46 x1 x2 D)) : ∀ (n : Nat) (x1 x2 : Int) (D : ga_D), ga_pr D (g_X8_solve_l20 n x1 x2 D k46) := by
  intro n
  induction n with
  | zero => intro x1 x2 D; exact pr_none
  | succ n ih =>
    intro x1 x2 D
    show ga_pr D (if D 4124 6 ≤ x2 then (k46 x1 x2 D) else (ga_bind (g_X8_at x2 x1 D) (fun r31 D31 => ga_bind (g_X10_isZero r31 D31) (fun r34 D34 => ga_ck (ga_K r31 = (9, 0)) (if r34 = 0 then (k46 x1 x2 D34) else (ga_let (aw_w32 (x2 + 1)) (fun v40 => g_X8_solve_l20 n x1 v40 D34 k46)))))))
    refine pr_ite (fun c25 => ?_) (fun c25 => ?_)
    exact hk46 _ _ _ 
    refine pr_bind (g_X8_at_pr) (fun r31 D31 => ?_)
    refine pr_bind (g_X10_isZero_pr) (fun r34 D34 => ?_)
    refine pr_ck (fun hk34_0 => ?_)
    refine pr_ite (fun c37 => ?_) (fun c37 => ?_)
    exact hk46 _ _ _ 
    refine pr_let (fun v40 => ?_)
    exact ih _ _ _ 
theorem g_X8_solve_l77_pr  {k102 : Int → ga_D → ga_S} (hk102 : ∀ (x1 : Int) (D : ga_D), ga_pr D (k102 x1 D)) : ∀ (n : Nat) (x1 x3 : Int) (D : ga_D), ga_pr D (g_X8_solve_l77 n x1 x3 D k102) := by
  intro n
  induction n with
  | zero => intro x1 x3 D; exact pr_none
  | succ n ih =>
    intro x1 x3 D
    show ga_pr D (if D 4124 6 ≤ x3 then (k102 x1 D) else (if x3 = x1 then (ga_let (aw_w32 (x3 + 1)) (fun v96 => g_X8_solve_l77 n x1 v96 D k102)) else (ga_bind (g_X8_against x3 x1 D) (fun r93 D93 => ga_let (aw_w32 (x3 + 1)) (fun v96 => g_X8_solve_l77 n x1 v96 D93 k102)))))
    refine pr_ite (fun c82 => ?_) (fun c82 => ?_)
    exact hk102 _ _ 
    refine pr_ite (fun c87 => ?_) (fun c87 => ?_)
    refine pr_let (fun v96 => ?_)
    exact ih _ _ _ 
    refine pr_bind (g_X8_against_pr) (fun r93 D93 => ?_)
    refine pr_let (fun v96 => ?_)
    exact ih _ _ _ 
theorem g_X8_solve_j46_pr  {k54 : ga_D → ga_S} {k10 : Int → ga_D → ga_S} (hk54 : ∀ (D : ga_D), ga_pr D (k54 D)) (hk10 : ∀ (x1 : Int) (D : ga_D), ga_pr D (k10 x1 D)) (x1 x2 : Int) (D : ga_D) : ga_pr D (g_X8_solve_j46 x1 x2 D k54 k10) := by
  unfold g_X8_solve_j46
  refine pr_ite (fun c51 => ?_) (fun c51 => ?_)
  refine pr_bind (g_X8_swap_pr) (fun r59 D59 => ?_)
  refine pr_bind (g_X8_at_pr) (fun r69 D69 => ?_)
  refine pr_bind (g_X10_copy_pr) (fun r72 D72 => ?_)
  refine g_X8_solve_l77_pr (fun x1 D102 => ?_) _ _ _ _ 
  refine pr_bind (g_X10_copy_pr) (fun r110 D110 => ?_)
  refine pr_let (fun v113 => ?_)
  exact hk10 _ _ 
  exact hk54 _ 
theorem g_X8_solve_l10_pr  {k54 : ga_D → ga_S} {k119 : ga_D → ga_S} (hk54 : ∀ (D : ga_D), ga_pr D (k54 D)) (hk119 : ∀ (D : ga_D), ga_pr D (k119 D)) : ∀ (n : Nat) (x1 : Int) (D : ga_D), ga_pr D (g_X8_solve_l10 n x1 D k54 k119) := by
  intro n
  induction n with
  | zero => intro x1 D; exact pr_none
  | succ n ih =>
    intro x1 D
    show ga_pr D (if D 4124 6 ≤ x1 then (k119 D) else (g_X8_solve_l20 aw_fu x1 x1 D (fun x1 x2 D46 => g_X8_solve_j46 x1 x2 D46 (fun D54 => k54 D54) (fun x1 D10 => g_X8_solve_l10 n x1 D10 k54 k119))))
    refine pr_ite (fun c15 => ?_) (fun c15 => ?_)
    exact hk119 _ 
    refine g_X8_solve_l20_pr (fun x1 x2 D46 => ?_) _ _ _ _ 
    refine g_X8_solve_j46_pr (fun D54 => ?_) (fun x1 D10 => ?_) _ _ _ 
    exact hk54 _ 
    exact ih _ _ 
theorem g_X8_solve_pr {D : ga_D} : ga_pr D (g_X8_solve D) := by
  unfold g_X8_solve
  refine pr_bind (g_X10_set_pr) (fun r5 D5 => ?_)
  refine g_X8_solve_l10_pr (fun D54 => ?_) (fun D119 => ?_) _ _ _ 
  exact pr_some
  exact pr_some
theorem g_X7_unknown_pr {x1 x2 : Int} {D : ga_D} : ga_pr D (g_X7_unknown x1 x2 D) := by
  unfold g_X7_unknown
  refine pr_bind (g_X8_at_pr) (fun r21 D21 => ?_)
  exact pr_some
theorem g_X8_under_pr {D : ga_D} : ga_pr D (g_X8_under D) := by
  unfold g_X8_under
  exact pr_some
theorem g_X11_set_pr {x0 x1 x2 : Int} {D : ga_D} : ga_pr D (g_X11_set x0 x1 x2 D) := by
  unfold g_X11_set
  refine pr_ck (fun hk1_0 => ?_)
  refine pr_bind (g_X10_copy_pr) (fun r5 D5 => ?_)
  refine pr_bind (g_X10_copy_pr) (fun r13 D13 => ?_)
  refine pr_ite (fun c23 => ?_) (fun c23 => ?_)
  exact pr_some
  refine pr_upd (ga_Pn (KO_10_11 hk1_0) rfl) (fun D31 => ?_)
  refine pr_ite (fun c45 => ?_) (fun c45 => ?_)
  refine pr_upd (ga_Pn (KO_10_9 hk1_0) rfl) (fun D63 => ?_)
  exact pr_some
  refine pr_bind (g_X10_isZero_pr) (fun r52 D52 => ?_)
  refine pr_ite (fun c55 => ?_) (fun c55 => ?_)
  refine pr_upd (ga_Pn (KO_10_9 hk1_0) rfl) (fun D63 => ?_)
  exact pr_some
  refine pr_upd (ga_Pn (KO_10_9 hk1_0) rfl) (fun D63 => ?_)
  exact pr_some
theorem g_X7_scaleInto_pr {x1 x2 : Int} {D : ga_D} : ga_pr D (g_X7_scaleInto x1 x2 D) := by
  unfold g_X7_scaleInto
  refine pr_bind (g_X10_set_pr) (fun r5 D5 => ?_)
  refine pr_bind (g_X9_multiply_pr) (fun r17 D17 => ?_)
  refine pr_bind (g_X10_copy_pr) (fun r25 D25 => ?_)
  refine pr_ck (fun hk25_0 => ?_)
  exact pr_some
theorem g_X7_gather_j144_pr  {k38 : Int → Int → Int → Int → Int → Int → ga_D → ga_S} (hk38 : ∀ (x1 x2 x3 x4 x5 x6 : Int) (D : ga_D), ga_pr D (k38 x1 x2 x3 x4 x5 x6 D)) (x1 x2 x3 x4 x5 x6 s0 s1 : Int) (D : ga_D) : ga_pr D (g_X7_gather_j144 x1 x2 x3 x4 x5 x6 s0 s1 D k38) := by
  unfold g_X7_gather_j144
  refine pr_ck (fun hk144_0 => ?_)
  refine pr_ck (fun hp144 => ?_)
  refine pr_upd (ga_Pn hk144_0 rfl) (fun D144 => ?_)
  refine pr_bind (g_X9_subtract_pr) (fun r155 D155 => ?_)
  refine pr_let (fun v158 => ?_)
  exact hk38 _ _ _ _ _ _ _ 
theorem g_X7_gather_j143_pr  {k38 : Int → Int → Int → Int → Int → Int → ga_D → ga_S} (hk38 : ∀ (x1 x2 x3 x4 x5 x6 : Int) (D : ga_D), ga_pr D (k38 x1 x2 x3 x4 x5 x6 D)) (x1 x2 x3 x4 x5 x6 s0 : Int) (D : ga_D) : ga_pr D (g_X7_gather_j143 x1 x2 x3 x4 x5 x6 s0 D k38) := by
  unfold g_X7_gather_j143
  refine g_X7_gather_j144_pr (fun x1 x2 x3 x4 x5 x6 D38 => ?_) _ _ _ _ _ _ _ _ _ 
  exact hk38 _ _ _ _ _ _ _ 
theorem g_X7_gather_l38_pr  {k164 : Int → Int → Int → Int → Int → ga_D → ga_S} (hk164 : ∀ (x1 x2 x3 x4 x5 : Int) (D : ga_D), ga_pr D (k164 x1 x2 x3 x4 x5 D)) : ∀ (n : Nat) (x1 x2 x3 x4 x5 x6 : Int) (D : ga_D), ga_pr D (g_X7_gather_l38 n x1 x2 x3 x4 x5 x6 D k164) := by
  intro n
  induction n with
  | zero => intro x1 x2 x3 x4 x5 x6 D; exact pr_none
  | succ n ih =>
    intro x1 x2 x3 x4 x5 x6 D
    show ga_pr D (if D 4114 0 ≤ x6 then (k164 x1 x2 x3 x4 x5 D) else (ga_ck (0 ≤ aw_w32 ((aw_w32 (3 * x4)) + x5) ∧ aw_w32 ((aw_w32 (3 * x4)) + x5) < 9) (if D 4116 (aw_w32 ((aw_w32 (3 * x4)) + x5)) ≠ aw_w32 ((-2) - x1) then (k164 x1 x2 x3 x4 x5 D) else (ga_bind (g_X7_unknown x4 x6 D) (fun r75 D75 => ga_bind (g_X10_copy 4346 r75 D75) (fun r78 D78 => ga_bind (g_X7_turned x4 x6 x2 D78) (fun r92 D92 => ga_bind (g_X7_scaleInto 4346 r92 D92) (fun r95 D95 => ga_bind (g_X7_shareOf x4 x2 x5 D95) (fun r109 D109 => ga_bind (g_X7_scaleInto 4346 r109 D109) (fun r112 D112 => if D112 4346 2 ≠ 0 then (g_X7_gather_j143 x1 x2 x3 x4 x5 x6 4346 D112 (fun x1 x2 x3 x4 x5 x6 D38 => g_X7_gather_l38 n x1 x2 x3 x4 x5 x6 D38 k164)) else (ga_bind (g_X10_isZero 4346 D112) (fun r133 D133 => if r133 ≠ 0 then (g_X7_gather_j143 x1 x2 x3 x4 x5 x6 4346 D133 (fun x1 x2 x3 x4 x5 x6 D38 => g_X7_gather_l38 n x1 x2 x3 x4 x5 x6 D38 k164)) else (g_X7_gather_j144 x1 x2 x3 x4 x5 x6 1 4346 D133 (fun x1 x2 x3 x4 x5 x6 D38 => g_X7_gather_l38 n x1 x2 x3 x4 x5 x6 D38 k164))))))))))))))
    refine pr_ite (fun c44 => ?_) (fun c44 => ?_)
    exact hk164 _ _ _ _ _ _ 
    refine pr_ck (fun ha58 => ?_)
    refine pr_ite (fun c63 => ?_) (fun c63 => ?_)
    exact hk164 _ _ _ _ _ _ 
    refine pr_bind (g_X7_unknown_pr) (fun r75 D75 => ?_)
    refine pr_bind (g_X10_copy_pr) (fun r78 D78 => ?_)
    refine pr_bind (g_X7_turned_pr) (fun r92 D92 => ?_)
    refine pr_bind (g_X7_scaleInto_pr) (fun r95 D95 => ?_)
    refine pr_bind (g_X7_shareOf_pr) (fun r109 D109 => ?_)
    refine pr_bind (g_X7_scaleInto_pr) (fun r112 D112 => ?_)
    refine pr_ite (fun c126 => ?_) (fun c126 => ?_)
    refine g_X7_gather_j143_pr (fun x1 x2 x3 x4 x5 x6 D38 => ?_) _ _ _ _ _ _ _ _ 
    exact ih _ _ _ _ _ _ _ 
    refine pr_bind (g_X10_isZero_pr) (fun r133 D133 => ?_)
    refine pr_ite (fun c136 => ?_) (fun c136 => ?_)
    refine g_X7_gather_j143_pr (fun x1 x2 x3 x4 x5 x6 D38 => ?_) _ _ _ _ _ _ _ _ 
    exact ih _ _ _ _ _ _ _ 
    refine g_X7_gather_j144_pr (fun x1 x2 x3 x4 x5 x6 D38 => ?_) _ _ _ _ _ _ _ _ _ 
    exact ih _ _ _ _ _ _ _ 
theorem g_X7_gather_l23_pr  {k170 : Int → Int → Int → Int → ga_D → ga_S} (hk170 : ∀ (x1 x2 x3 x4 : Int) (D : ga_D), ga_pr D (k170 x1 x2 x3 x4 D)) : ∀ (n : Nat) (x1 x2 x3 x4 x5 : Int) (D : ga_D), ga_pr D (g_X7_gather_l23 n x1 x2 x3 x4 x5 D k170) := by
  intro n
  induction n with
  | zero => intro x1 x2 x3 x4 x5 D; exact pr_none
  | succ n ih =>
    intro x1 x2 x3 x4 x5 D
    show ga_pr D (ga_ck (0 ≤ x4 ∧ x4 < 3) (if D 4115 x4 ≤ x5 then (k170 x1 x2 x3 x4 D) else (g_X7_gather_l38 aw_fu x1 x2 x3 x4 x5 0 D (fun x1 x2 x3 x4 x5 D164 => ga_let (aw_w32 (x5 + 1)) (fun v164 => g_X7_gather_l23 n x1 x2 x3 x4 v164 D164 k170)))))
    refine pr_ck (fun ha31 => ?_)
    refine pr_ite (fun c32 => ?_) (fun c32 => ?_)
    exact hk170 _ _ _ _ _ 
    refine g_X7_gather_l38_pr (fun x1 x2 x3 x4 x5 D164 => ?_) _ _ _ _ _ _ _ _ 
    refine pr_let (fun v164 => ?_)
    exact ih _ _ _ _ _ _ 
theorem g_X7_gather_l11_pr  {k176 : Int → ga_D → ga_S} (hk176 : ∀ (x3 : Int) (D : ga_D), ga_pr D (k176 x3 D)) : ∀ (n : Nat) (x1 x2 x3 x4 : Int) (D : ga_D), ga_pr D (g_X7_gather_l11 n x1 x2 x3 x4 D k176) := by
  intro n
  induction n with
  | zero => intro x1 x2 x3 x4 D; exact pr_none
  | succ n ih =>
    intro x1 x2 x3 x4 D
    show ga_pr D (if D 4114 1 ≤ x4 then (k176 x3 D) else (g_X7_gather_l23 aw_fu x1 x2 x3 x4 0 D (fun x1 x2 x3 x4 D170 => ga_let (aw_w32 (x4 + 1)) (fun v170 => g_X7_gather_l11 n x1 x2 x3 v170 D170 k176))))
    refine pr_ite (fun c17 => ?_) (fun c17 => ?_)
    exact hk176 _ _ 
    refine g_X7_gather_l23_pr (fun x1 x2 x3 x4 D170 => ?_) _ _ _ _ _ _ _ 
    refine pr_let (fun v170 => ?_)
    exact ih _ _ _ _ _ 
theorem g_X7_gather_pr {x1 x2 x3 : Int} {D : ga_D} : ga_pr D (g_X7_gather x1 x2 x3 D) := by
  unfold g_X7_gather
  refine pr_bind (g_X10_set_pr) (fun r5 D5 => ?_)
  refine g_X7_gather_l11_pr (fun x3 D176 => ?_) _ _ _ _ _ _ 
  refine pr_bind (g_X8_under_pr) (fun r184 D184 => ?_)
  refine pr_bind (g_X10_copy_pr) (fun r187 D187 => ?_)
  refine pr_bind (g_X7_scaleInto_pr) (fun r198 D198 => ?_)
  refine pr_bind (g_X7_scaleInto_pr) (fun r209 D209 => ?_)
  refine pr_bind (g_X11_set_pr) (fun r221 D221 => ?_)
  refine pr_ck (fun hk221_0 => ?_)
  exact pr_some
theorem g_X7_solve_l82_pr  {k125 : Int → ga_D → ga_S} (hk125 : ∀ (x3 : Int) (D : ga_D), ga_pr D (k125 x3 D)) : ∀ (n : Nat) (x3 x4 : Int) (D : ga_D), ga_pr D (g_X7_solve_l82 n x3 x4 D k125) := by
  intro n
  induction n with
  | zero => intro x3 x4 D; exact pr_none
  | succ n ih =>
    intro x3 x4 D
    show ga_pr D (if D 4114 0 ≤ x4 then (k125 x3 D) else (ga_ck (0 ≤ aw_w32 ((aw_w32 (3 * x3)) + x4) ∧ aw_w32 ((aw_w32 (3 * x3)) + x4) < 18) (ga_bind (g_X7_unknown x3 x4 D) (fun r106 D106 => ga_bind (g_X8_under D106) (fun r113 D113 => ga_bind (g_X11_set ((21 * (aw_w32 ((aw_w32 (3 * x3)) + x4)) + 4404)) r106 r113 D113) (fun r116 D116 => ga_let (aw_w32 (x4 + 1)) (fun v119 => g_X7_solve_l82 n x3 v119 D116 k125)))))))
    refine pr_ite (fun c88 => ?_) (fun c88 => ?_)
    exact hk125 _ _ 
    refine pr_ck (fun ha101 => ?_)
    refine pr_bind (g_X7_unknown_pr) (fun r106 D106 => ?_)
    refine pr_bind (g_X8_under_pr) (fun r113 D113 => ?_)
    refine pr_bind (g_X11_set_pr) (fun r116 D116 => ?_)
    refine pr_let (fun v119 => ?_)
    exact ih _ _ _ 
theorem g_X7_solve_l71_pr  {k131 : ga_D → ga_S} (hk131 : ∀ (D : ga_D), ga_pr D (k131 D)) : ∀ (n : Nat) (x3 : Int) (D : ga_D), ga_pr D (g_X7_solve_l71 n x3 D k131) := by
  intro n
  induction n with
  | zero => intro x3 D; exact pr_none
  | succ n ih =>
    intro x3 D
    show ga_pr D (if D 4114 1 ≤ x3 then (k131 D) else (g_X7_solve_l82 aw_fu x3 0 D (fun x3 D125 => ga_let (aw_w32 (x3 + 1)) (fun v125 => g_X7_solve_l71 n v125 D125 k131))))
    refine pr_ite (fun c76 => ?_) (fun c76 => ?_)
    exact hk131 _ 
    refine g_X7_solve_l82_pr (fun x3 D125 => ?_) _ _ _ _ 
    refine pr_let (fun v125 => ?_)
    exact ih _ _ 
theorem g_X7_solve_l144_pr  {k180 : Int → ga_D → ga_S} (hk180 : ∀ (x3 : Int) (D : ga_D), ga_pr D (k180 x3 D)) : ∀ (n : Nat) (x3 x4 : Int) (D : ga_D), ga_pr D (g_X7_solve_l144 n x3 x4 D k180) := by
  intro n
  induction n with
  | zero => intro x3 x4 D; exact pr_none
  | succ n ih =>
    intro x3 x4 D
    show ga_pr D (if D 4114 0 ≤ x4 then (k180 x3 D) else (ga_ck (0 ≤ aw_w32 ((aw_w32 (9 + (aw_w32 (3 * x3)))) + x4) ∧ aw_w32 ((aw_w32 (9 + (aw_w32 (3 * x3)))) + x4) < 18) (ga_bind (g_X7_gather x3 x4 ((21 * (aw_w32 ((aw_w32 (9 + (aw_w32 (3 * x3)))) + x4)) + 4404)) D) (fun r171 D171 => ga_let (aw_w32 (x4 + 1)) (fun v174 => g_X7_solve_l144 n x3 v174 D171 k180)))))
    refine pr_ite (fun c150 => ?_) (fun c150 => ?_)
    exact hk180 _ _ 
    refine pr_ck (fun ha170 => ?_)
    refine pr_bind (g_X7_gather_pr) (fun r171 D171 => ?_)
    refine pr_let (fun v174 => ?_)
    exact ih _ _ _ 
theorem g_X7_solve_l133_pr  {k186 : ga_D → ga_S} (hk186 : ∀ (D : ga_D), ga_pr D (k186 D)) : ∀ (n : Nat) (x3 : Int) (D : ga_D), ga_pr D (g_X7_solve_l133 n x3 D k186) := by
  intro n
  induction n with
  | zero => intro x3 D; exact pr_none
  | succ n ih =>
    intro x3 D
    show ga_pr D (if D 4114 2 ≤ x3 then (k186 D) else (g_X7_solve_l144 aw_fu x3 0 D (fun x3 D180 => ga_let (aw_w32 (x3 + 1)) (fun v180 => g_X7_solve_l133 n v180 D180 k186))))
    refine pr_ite (fun c138 => ?_) (fun c138 => ?_)
    exact hk186 _ 
    refine g_X7_solve_l144_pr (fun x3 D180 => ?_) _ _ _ _ 
    refine pr_let (fun v180 => ?_)
    exact ih _ _ 
theorem g_X7_solve_j16_pr  (x1 s0 : Int) (D : ga_D) : ga_pr D (g_X7_solve_j16 x1 s0 D) := by
  unfold g_X7_solve_j16
  refine pr_ck (fun hp16 => ?_)
  refine pr_upd (ga_Pn K_4114 rfl) (fun D16 => ?_)
  refine pr_ck (fun hp24 => ?_)
  refine pr_upd (ga_Pn K_4114 rfl) (fun D24 => ?_)
  refine pr_ite (fun c31 => ?_) (fun c31 => ?_)
  refine pr_bind (g_X7_layOut_pr) (fun r42 D42 => ?_)
  refine pr_bind (g_X8_solve_pr) (fun r49 D49 => ?_)
  refine pr_upd (ga_Pn K_4114 rfl) (fun D58 => ?_)
  refine pr_upd (ga_Pn K_4114 rfl) (fun D66 => ?_)
  refine g_X7_solve_l71_pr (fun D131 => ?_) _ _ _ 
  refine g_X7_solve_l133_pr (fun D186 => ?_) _ _ _ 
  exact pr_some
  exact pr_some
theorem g_X7_solve_pr {D : ga_D} : ga_pr D (g_X7_solve D) := by
  unfold g_X7_solve
  refine pr_bind (g_X7_loop_pr) (fun r1 D1 => ?_)
  refine pr_ite (fun c8 => ?_) (fun c8 => ?_)
  refine g_X7_solve_j16_pr _ _ _ 
  refine g_X7_solve_j16_pr _ _ _ 
theorem g_X7_isPart_pr {x0 : Int} {D : ga_D} : ga_pr D (g_X7_isPart x0 D) := by
  unfold g_X7_isPart
  refine pr_ite (fun c1 => ?_) (fun c1 => ?_)
  exact pr_some
  refine pr_ite (fun c7 => ?_) (fun c7 => ?_)
  exact pr_some
  exact pr_some
theorem g_X11_asLong_l4_pr  {k26 : Int → ga_D → ga_S} (hk26 : ∀ (x1 : Int) (D : ga_D), ga_pr D (k26 x1 D)) : ∀ (n : Nat) (x0 x1 x3 : Int) (D : ga_D), ga_pr D (g_X11_asLong_l4 n x0 x1 x3 D k26) := by
  intro n
  induction n with
  | zero => intro x0 x1 x3 D; exact pr_none
  | succ n ih =>
    intro x0 x1 x3 D
    show ga_pr D (if x3 < 0 then (k26 x1 D) else (ga_bind (g_X10_at x0 x3 D) (fun r14 D14 => ga_ck (ga_K x0 = (9, 0)) (ga_let (aw_lor (aw_lshl x1 16) r14) (fun v19 => ga_let (aw_w32 (x3 + (-1))) (fun v20 => g_X11_asLong_l4 n x0 v19 v20 D14 k26))))))
    refine pr_ite (fun c5 => ?_) (fun c5 => ?_)
    exact hk26 _ _ 
    refine pr_bind (g_X10_at_pr) (fun r14 D14 => ?_)
    refine pr_ck (fun hk14_0 => ?_)
    refine pr_let (fun v19 => ?_)
    refine pr_let (fun v20 => ?_)
    exact ih _ _ _ _ 
theorem g_X11_asLong_pr {x0 : Int} {D : ga_D} : ga_pr D (g_X11_asLong x0 D) := by
  unfold g_X11_asLong
  refine g_X11_asLong_l4_pr (fun x1 D26 => ?_) _ _ _ _ _ 
  exact pr_some
theorem g_X11_part_l124_pr  {k197 : Int → ga_D → ga_S} (hk197 : ∀ (x3 : Int) (D : ga_D), ga_pr D (k197 x3 D)) : ∀ (n : Nat) (x0 x1 x3 x5 : Int) (D : ga_D), ga_pr D (g_X11_part_l124 n x0 x1 x3 x5 D k197) := by
  intro n
  induction n with
  | zero => intro x0 x1 x3 x5 D; exact pr_none
  | succ n ih =>
    intro x0 x1 x3 x5 D
    show ga_pr D (if x1 ≤ x5 then (k197 x3 D) else (ga_ck (ga_K x0 = (10, 0)) (ga_let (ga_set D ((x0 + 13)) 2 0) (fun D135 => ga_bind (g_X9_multiply ((x0 + 13)) ((x0 + 17)) ((x0 + 19)) D135) (fun r150 D150 => ga_bind (g_X10_copy ((x0 + 13)) ((x0 + 19)) D150) (fun r161 D161 => ga_bind (g_X9_divide ((x0 + 1)) ((x0 + 13)) ((x0 + 11)) ((x0 + 15)) D161) (fun r180 D180 => ga_bind (g_X11_asLong ((x0 + 15)) D180) (fun r187 D187 => ga_let (aw_w32 (x5 + 1)) (fun v191 => g_X11_part_l124 n x0 x1 r187 v191 D187 k197)))))))))
    refine pr_ite (fun c127 => ?_) (fun c127 => ?_)
    exact hk197 _ _ 
    refine pr_ck (fun hk131_0 => ?_)
    refine pr_upd (ga_Pn (KO_10_13 hk131_0) rfl) (fun D135 => ?_)
    refine pr_bind (g_X9_multiply_pr) (fun r150 D150 => ?_)
    refine pr_bind (g_X10_copy_pr) (fun r161 D161 => ?_)
    refine pr_bind (g_X9_divide_pr) (fun r180 D180 => ?_)
    refine pr_bind (g_X11_asLong_pr) (fun r187 D187 => ?_)
    refine pr_let (fun v191 => ?_)
    exact ih _ _ _ _ _ 
theorem g_X11_part_j69_pr  (x0 x1 s0 : Int) (D : ga_D) : ga_pr D (g_X11_part_j69 x0 x1 s0 D) := by
  unfold g_X11_part_j69
  refine pr_ck (fun hk71_0 => ?_)
  refine pr_bind (g_X10_isZero_pr) (fun r74 D74 => ?_)
  refine pr_ite (fun c77 => ?_) (fun c77 => ?_)
  refine g_X11_part_l124_pr (fun x3 D197 => ?_) _ _ _ _ _ _ 
  exact pr_some
  refine pr_bind (g_X10_copy_pr) (fun r88 D88 => ?_)
  refine pr_upd (ga_Pn (KO_10_13 hk71_0) rfl) (fun D96 => ?_)
  refine pr_bind (g_X9_subtract_pr) (fun r107 D107 => ?_)
  refine pr_bind (g_X10_copy_pr) (fun r118 D118 => ?_)
  refine g_X11_part_l124_pr (fun x3 D197 => ?_) _ _ _ _ _ _ 
  exact pr_some
theorem g_X11_part_pr {x0 x1 : Int} {D : ga_D} : ga_pr D (g_X11_part x0 x1 D) := by
  unfold g_X11_part
  refine pr_ck (fun hk1_0 => ?_)
  refine pr_bind (g_X10_copy_pr) (fun r8 D8 => ?_)
  refine pr_let (fun v18 => ?_)
  refine pr_bind (g_X9_divide_pr) (fun r35 D35 => ?_)
  refine pr_bind (g_X11_asLong_pr) (fun r42 D42 => ?_)
  refine pr_ite (fun c47 => ?_) (fun c47 => ?_)
  refine g_X11_part_l124_pr (fun x3 D197 => ?_) _ _ _ _ _ _ 
  exact pr_some
  refine pr_bind (g_X10_isZero_pr) (fun r54 D54 => ?_)
  refine pr_ite (fun c57 => ?_) (fun c57 => ?_)
  refine g_X11_part_j69_pr _ _ _ _ 
  refine g_X11_part_j69_pr _ _ _ _ 
theorem g_X7_out_j39_pr  (x1 x2 x3 s0 : Int) (D : ga_D) : ga_pr D (g_X7_out_j39 x1 x2 x3 s0 D) := by
  unfold g_X7_out_j39
  refine pr_ite (fun c43 => ?_) (fun c43 => ?_)
  exact pr_some
  refine pr_ck (fun ha58 => ?_)
  refine pr_bind (g_X11_part_pr) (fun r60 D60 => ?_)
  exact pr_some
theorem g_X7_out_j38_pr  (x1 x2 x3 : Int) (D : ga_D) : ga_pr D (g_X7_out_j38 x1 x2 x3 D) := by
  unfold g_X7_out_j38
  refine g_X7_out_j39_pr _ _ _ _ _ 
theorem g_X7_out_pr {x1 x2 x3 : Int} {D : ga_D} : ga_pr D (g_X7_out x1 x2 x3 D) := by
  unfold g_X7_out
  refine pr_ite (fun c4 => ?_) (fun c4 => ?_)
  refine g_X7_out_j38_pr _ _ _ _ 
  refine pr_ite (fun c8 => ?_) (fun c8 => ?_)
  refine g_X7_out_j38_pr _ _ _ _ 
  refine pr_ite (fun c16 => ?_) (fun c16 => ?_)
  refine g_X7_out_j38_pr _ _ _ _ 
  refine pr_bind (g_X7_isKind_pr) (fun r21 D21 => ?_)
  refine pr_ite (fun c24 => ?_) (fun c24 => ?_)
  refine g_X7_out_j38_pr _ _ _ _ 
  refine pr_bind (g_X7_isPart_pr) (fun r28 D28 => ?_)
  refine pr_ite (fun c31 => ?_) (fun c31 => ?_)
  refine g_X7_out_j38_pr _ _ _ _ 
  refine g_X7_out_j39_pr _ _ _ _ _ 
theorem g_X7_machine_pr {x1 : Int} {D : ga_D} : ga_pr D (g_X7_machine x1 D) := by
  unfold g_X7_machine
  refine pr_ite (fun c5 => ?_) (fun c5 => ?_)
  exact pr_some
  refine pr_ite (fun c10 => ?_) (fun c10 => ?_)
  exact pr_some
  refine pr_ite (fun c15 => ?_) (fun c15 => ?_)
  refine pr_ck (fun ha29 => ?_)
  refine pr_upd (ga_Pn K_4115 rfl) (fun D29 => ?_)
  refine pr_upd (ga_Pn K_4114 rfl) (fun D32 => ?_)
  refine pr_upd (ga_Pn K_4114 rfl) (fun D43 => ?_)
  exact pr_some
  exact pr_some
theorem g_X7_port_pr {D : ga_D} : ga_pr D (g_X7_port D) := by
  unfold g_X7_port
  refine pr_ite (fun c5 => ?_) (fun c5 => ?_)
  refine pr_upd (ga_Pn K_4114 rfl) (fun D12 => ?_)
  refine pr_upd (ga_Pn K_4114 rfl) (fun D23 => ?_)
  exact pr_some
  exact pr_some
theorem g_X7_joinOut_pr {x1 x2 x3 : Int} {D : ga_D} : ga_pr D (g_X7_joinOut x1 x2 x3 D) := by
  unfold g_X7_joinOut
  refine pr_bind (g_X7_isMachine_pr) (fun r2 D2 => ?_)
  refine pr_ite (fun c5 => ?_) (fun c5 => ?_)
  exact pr_some
  refine pr_ite (fun c9 => ?_) (fun c9 => ?_)
  exact pr_some
  refine pr_ck (fun ha18 => ?_)
  refine pr_ite (fun c19 => ?_) (fun c19 => ?_)
  exact pr_some
  refine pr_ite (fun c27 => ?_) (fun c27 => ?_)
  exact pr_some
  refine pr_ite (fun c37 => ?_) (fun c37 => ?_)
  refine pr_ck (fun ha52 => ?_)
  refine pr_upd (ga_Pn K_4116 rfl) (fun D52 => ?_)
  refine pr_upd (ga_Pn K_4114 rfl) (fun D55 => ?_)
  exact pr_some
  exact pr_some
theorem g_X7_isShare_pr {x0 x2 : Int} {D : ga_D} : ga_pr D (g_X7_isShare x0 x2 D) := by
  unfold g_X7_isShare
  refine pr_ite (fun c3 => ?_) (fun c3 => ?_)
  exact pr_some
  refine pr_ite (fun c11 => ?_) (fun c11 => ?_)
  exact pr_some
  refine pr_ite (fun c17 => ?_) (fun c17 => ?_)
  exact pr_some
  refine pr_ite (fun c23 => ?_) (fun c23 => ?_)
  exact pr_some
  exact pr_some
theorem g_X7_share_pr {x1 x2 x3 x4 x6 : Int} {D : ga_D} : ga_pr D (g_X7_share x1 x2 x3 x4 x6 D) := by
  unfold g_X7_share
  refine pr_bind (g_X7_isMachine_pr) (fun r2 D2 => ?_)
  refine pr_ite (fun c5 => ?_) (fun c5 => ?_)
  exact pr_some
  refine pr_bind (g_X7_isKind_pr) (fun r10 D10 => ?_)
  refine pr_ite (fun c13 => ?_) (fun c13 => ?_)
  exact pr_some
  refine pr_ite (fun c17 => ?_) (fun c17 => ?_)
  exact pr_some
  refine pr_ck (fun ha26 => ?_)
  refine pr_ite (fun c29 => ?_) (fun c29 => ?_)
  exact pr_some
  refine pr_bind (g_X7_isShare_pr) (fun r36 D36 => ?_)
  refine pr_ite (fun c39 => ?_) (fun c39 => ?_)
  refine pr_ck (fun hz49 => ?_)
  refine pr_let (fun v54 => ?_)
  refine pr_ck (fun ha70 => ?_)
  refine pr_let (fun v71 => ?_)
  refine pr_ck (fun ha81 => ?_)
  refine pr_bind (g_X7_shareOf_pr) (fun r84 D84 => ?_)
  refine pr_ite (fun c92 => ?_) (fun c92 => ?_)
  refine pr_ck (fun ha113 => ?_)
  refine pr_upd (ga_Pn K_4117 rfl) (fun D113 => ?_)
  refine pr_upd (ga_Pn K_4114 rfl) (fun D116 => ?_)
  exact pr_some
  exact pr_some
  exact pr_some
theorem g_X7_crush_pr {x1 x2 x3 x4 x6 : Int} {D : ga_D} : ga_pr D (g_X7_crush x1 x2 x3 x4 x6 D) := by
  unfold g_X7_crush
  refine pr_bind (g_X7_isMachine_pr) (fun r2 D2 => ?_)
  refine pr_ite (fun c5 => ?_) (fun c5 => ?_)
  exact pr_some
  refine pr_bind (g_X7_isKind_pr) (fun r10 D10 => ?_)
  refine pr_ite (fun c13 => ?_) (fun c13 => ?_)
  exact pr_some
  refine pr_bind (g_X7_isKind_pr) (fun r18 D18 => ?_)
  refine pr_ite (fun c21 => ?_) (fun c21 => ?_)
  exact pr_some
  refine pr_ite (fun c26 => ?_) (fun c26 => ?_)
  exact pr_some
  refine pr_bind (g_X7_isShare_pr) (fun r33 D33 => ?_)
  refine pr_ite (fun c36 => ?_) (fun c36 => ?_)
  refine pr_ck (fun ha51 => ?_)
  refine pr_upd (ga_Pn K_4118 rfl) (fun D51 => ?_)
  refine pr_ck (fun hz66 => ?_)
  refine pr_ck (fun ha71 => ?_)
  refine pr_upd (ga_Pn K_4119 rfl) (fun D71 => ?_)
  refine pr_upd (ga_Pn K_4114 rfl) (fun D74 => ?_)
  exact pr_some
  exact pr_some
theorem g_X11_add_j38_pr  (x0 s0 s1 : Int) (D : ga_D) : ga_pr D (g_X11_add_j38 x0 s0 s1 D) := by
  unfold g_X11_add_j38
  refine pr_ck (fun hk38_0 => ?_)
  refine pr_ck (fun hp38 => ?_)
  refine pr_upd (ga_Pn hk38_0 rfl) (fun D38 => ?_)
  refine pr_ck (fun hk42_1 => ?_)
  refine pr_bind (g_X9_subtract_pr) (fun r49 D49 => ?_)
  exact pr_some
theorem g_X11_add_j37_pr  (x0 s0 : Int) (D : ga_D) : ga_pr D (g_X11_add_j37 x0 s0 D) := by
  unfold g_X11_add_j37
  refine g_X11_add_j38_pr _ _ _ _ 
theorem g_X11_add_pr {x0 x1 x2 : Int} {D : ga_D} : ga_pr D (g_X11_add x0 x1 x2 D) := by
  unfold g_X11_add
  refine pr_ck (fun hk1_0 => ?_)
  refine pr_bind (g_X10_copy_pr) (fun r5 D5 => ?_)
  refine pr_ite (fun c20 => ?_) (fun c20 => ?_)
  refine g_X11_add_j37_pr _ _ _ 
  refine pr_bind (g_X10_isZero_pr) (fun r27 D27 => ?_)
  refine pr_ite (fun c30 => ?_) (fun c30 => ?_)
  refine g_X11_add_j37_pr _ _ _ 
  refine g_X11_add_j38_pr _ _ _ _ 
theorem g_X7_loadOf_l38_pr  {k70 : ga_D → ga_S} (hk70 : ∀ (D : ga_D), ga_pr D (k70 D)) : ∀ (n : Nat) (x1 x2 x3 : Int) (D : ga_D), ga_pr D (g_X7_loadOf_l38 n x1 x2 x3 D k70) := by
  intro n
  induction n with
  | zero => intro x1 x2 x3 D; exact pr_none
  | succ n ih =>
    intro x1 x2 x3 D
    show ga_pr D (if D 4114 0 ≤ x3 then (k70 D) else (ga_ck (0 ≤ aw_w32 ((aw_w32 (3 * x1)) + x3) ∧ aw_w32 ((aw_w32 (3 * x1)) + x3) < 18) (ga_bind (g_X11_add x2 ((21 * (aw_w32 ((aw_w32 (3 * x1)) + x3)) + 4413)) 0 D) (fun r61 D61 => ga_ck (ga_K x2 = (10, 0)) (ga_let (aw_w32 (x3 + 1)) (fun v64 => g_X7_loadOf_l38 n x1 x2 v64 D61 k70))))))
    refine pr_ite (fun c43 => ?_) (fun c43 => ?_)
    exact hk70 _ 
    refine pr_ck (fun ha56 => ?_)
    refine pr_bind (g_X11_add_pr) (fun r61 D61 => ?_)
    refine pr_ck (fun hk61_0 => ?_)
    refine pr_let (fun v64 => ?_)
    exact ih _ _ _ _ 
theorem g_X7_loadOf_pr {x1 x2 : Int} {D : ga_D} : ga_pr D (g_X7_loadOf x1 x2 D) := by
  unfold g_X7_loadOf
  refine pr_ck (fun hk1_0 => ?_)
  refine pr_ck (fun ha11 => ?_)
  refine pr_bind (g_X10_copy_pr) (fun r15 D15 => ?_)
  refine pr_ck (fun ha29 => ?_)
  refine pr_bind (g_X10_copy_pr) (fun r33 D33 => ?_)
  refine g_X7_loadOf_l38_pr (fun D70 => ?_) _ _ _ _ _ 
  exact pr_some
theorem g_X7_load_pr {x1 x2 : Int} {D : ga_D} : ga_pr D (g_X7_load x1 x2 D) := by
  unfold g_X7_load
  refine pr_ite (fun c4 => ?_) (fun c4 => ?_)
  exact pr_some
  refine pr_ite (fun c8 => ?_) (fun c8 => ?_)
  exact pr_some
  refine pr_ite (fun c16 => ?_) (fun c16 => ?_)
  exact pr_some
  refine pr_bind (g_X7_isPart_pr) (fun r20 D20 => ?_)
  refine pr_ite (fun c23 => ?_) (fun c23 => ?_)
  refine pr_bind (g_X7_loadOf_pr) (fun r36 D36 => ?_)
  refine pr_bind (g_X11_part_pr) (fun r44 D44 => ?_)
  exact pr_some
  exact pr_some
theorem g_X7_span_pr {x1 x2 x4 : Int} {D : ga_D} : ga_pr D (g_X7_span x1 x2 x4 D) := by
  unfold g_X7_span
  refine pr_bind (g_X7_isMachine_pr) (fun r2 D2 => ?_)
  refine pr_ite (fun c5 => ?_) (fun c5 => ?_)
  exact pr_some
  refine pr_ite (fun c11 => ?_) (fun c11 => ?_)
  exact pr_some
  refine pr_ite (fun c18 => ?_) (fun c18 => ?_)
  exact pr_some
  refine pr_ite (fun c27 => ?_) (fun c27 => ?_)
  refine pr_ck (fun ha38 => ?_)
  refine pr_upd (ga_Pn K_4121 rfl) (fun D38 => ?_)
  refine pr_ck (fun ha46 => ?_)
  refine pr_upd (ga_Pn K_4122 rfl) (fun D46 => ?_)
  refine pr_ck (fun ha55 => ?_)
  refine pr_upd (ga_Pn K_4123 rfl) (fun D55 => ?_)
  exact pr_some
  exact pr_some
theorem g_X11_compare_pr {x0 x1 : Int} {D : ga_D} : ga_pr D (g_X11_compare x0 x1 D) := by
  unfold g_X11_compare
  refine pr_ck (fun hk1_0 => ?_)
  refine pr_bind (g_X10_set_pr) (fun r5 D5 => ?_)
  refine pr_bind (g_X9_multiply_pr) (fun r20 D20 => ?_)
  refine pr_ite (fun c30 => ?_) (fun c30 => ?_)
  refine pr_bind (g_X10_compareSize_pr) (fun r45 D45 => ?_)
  exact pr_some
  exact pr_some
theorem g_X7_over_j69_pr  {k74 : Int → ga_D → ga_S} {k4 : Int → Int → Int → ga_D → ga_S} (hk74 : ∀ (x3 : Int) (D : ga_D), ga_pr D (k74 x3 D)) (hk4 : ∀ (x1 x2 x3 : Int) (D : ga_D), ga_pr D (k4 x1 x2 x3 D)) (x1 x2 x3 : Int) (D : ga_D) : ga_pr D (g_X7_over_j69 x1 x2 x3 D k74 k4) := by
  unfold g_X7_over_j69
  refine pr_ite (fun c71 => ?_) (fun c71 => ?_)
  refine pr_let (fun v76 => ?_)
  refine pr_let (fun v79 => ?_)
  exact hk4 _ _ _ _ 
  exact hk74 _ _ 
theorem g_X7_over_l4_pr  {k74 : Int → ga_D → ga_S} {k85 : ga_D → ga_S} (hk74 : ∀ (x3 : Int) (D : ga_D), ga_pr D (k74 x3 D)) (hk85 : ∀ (D : ga_D), ga_pr D (k85 D)) : ∀ (n : Nat) (x1 x2 x3 : Int) (D : ga_D), ga_pr D (g_X7_over_l4 n x1 x2 x3 D k74 k85) := by
  intro n
  induction n with
  | zero => intro x1 x2 x3 D; exact pr_none
  | succ n ih =>
    intro x1 x2 x3 D
    show ga_pr D (if D 4114 20 ≤ x3 then (k85 D) else (if D 4114 18 = 0 then (k85 D) else (ga_bind (g_X7_loadOf x3 4323 D) (fun r25 D25 => ga_ck (0 ≤ x3 ∧ x3 < 3) (if D25 4121 x3 = 0 then (ga_let (aw_w32 (x3 + 1)) (fun v79 => g_X7_over_l4 n x1 x2 v79 D25 k74 k85)) else (ga_ck (0 ≤ x3 ∧ x3 < 3) (ga_bind (g_X11_compare 4323 (D25 4122 x3) D25) (fun r47 D47 => if r47 < 0 then (g_X7_over_j69 x1 x2 x3 D47 (fun x3 D74 => k74 x3 D74) (fun x1 x2 x3 D4 => g_X7_over_l4 n x1 x2 x3 D4 k74 k85)) else (ga_ck (0 ≤ x3 ∧ x3 < 3) (ga_bind (g_X11_compare 4323 (D47 4123 x3) D47) (fun r63 D63 => if r63 ≤ 0 then (ga_let (aw_w32 (x3 + 1)) (fun v79 => g_X7_over_l4 n x1 x2 v79 D63 k74 k85)) else (g_X7_over_j69 x1 x2 x3 D63 (fun x3 D74 => k74 x3 D74) (fun x1 x2 x3 D4 => g_X7_over_l4 n x1 x2 x3 D4 k74 k85)))))))))))))
    refine pr_ite (fun c9 => ?_) (fun c9 => ?_)
    exact hk85 _ 
    refine pr_ite (fun c16 => ?_) (fun c16 => ?_)
    exact hk85 _ 
    refine pr_bind (g_X7_loadOf_pr) (fun r25 D25 => ?_)
    refine pr_ck (fun ha33 => ?_)
    refine pr_ite (fun c34 => ?_) (fun c34 => ?_)
    refine pr_let (fun v79 => ?_)
    exact ih _ _ _ _ 
    refine pr_ck (fun ha46 => ?_)
    refine pr_bind (g_X11_compare_pr) (fun r47 D47 => ?_)
    refine pr_ite (fun c50 => ?_) (fun c50 => ?_)
    refine g_X7_over_j69_pr (fun x3 D74 => ?_) (fun x1 x2 x3 D4 => ?_) _ _ _ _ 
    exact hk74 _ _ 
    exact ih _ _ _ _ 
    refine pr_ck (fun ha62 => ?_)
    refine pr_bind (g_X11_compare_pr) (fun r63 D63 => ?_)
    refine pr_ite (fun c66 => ?_) (fun c66 => ?_)
    refine pr_let (fun v79 => ?_)
    exact ih _ _ _ _ 
    refine g_X7_over_j69_pr (fun x3 D74 => ?_) (fun x1 x2 x3 D4 => ?_) _ _ _ _ 
    exact hk74 _ _ 
    exact ih _ _ _ _ 
theorem g_X7_over_pr {x1 : Int} {D : ga_D} : ga_pr D (g_X7_over x1 D) := by
  unfold g_X7_over
  refine g_X7_over_l4_pr (fun x3 D74 => ?_) (fun D85 => ?_) _ _ _ _ _ 
  exact pr_some
  exact pr_some
theorem g_X7_worth_l73_pr  {k112 : ga_D → ga_S} (hk112 : ∀ (D : ga_D), ga_pr D (k112 D)) : ∀ (n : Nat) (x3 x4 x6 : Int) (D : ga_D), ga_pr D (g_X7_worth_l73 n x3 x4 x6 D k112) := by
  intro n
  induction n with
  | zero => intro x3 x4 x6 D; exact pr_none
  | succ n ih =>
    intro x3 x4 x6 D
    show ga_pr D (if D 4114 0 ≤ x6 then (k112 D) else (ga_bind (g_X7_gather x3 x6 4323 D) (fun r90 D90 => ga_bind (g_X11_add x4 4332 0 D90) (fun r103 D103 => ga_ck (ga_K x4 = (10, 0)) (ga_let (aw_w32 (x6 + 1)) (fun v106 => g_X7_worth_l73 n x3 x4 v106 D103 k112))))))
    refine pr_ite (fun c79 => ?_) (fun c79 => ?_)
    exact hk112 _ 
    refine pr_bind (g_X7_gather_pr) (fun r90 D90 => ?_)
    refine pr_bind (g_X11_add_pr) (fun r103 D103 => ?_)
    refine pr_ck (fun hk103_0 => ?_)
    refine pr_let (fun v106 => ?_)
    exact ih _ _ _ _ 
theorem g_X7_worth_j21_pr  (x4 s0 s1 : Int) (D : ga_D) : ga_pr D (g_X7_worth_j21 x4 s0 s1 D) := by
  unfold g_X7_worth_j21
  refine pr_bind (g_X10_set_pr) (fun r21 D21 => ?_)
  refine pr_ck (fun hk21_0 => ?_)
  refine pr_bind (g_X10_set_pr) (fun r29 D29 => ?_)
  refine pr_bind (g_X11_set_pr) (fun r42 D42 => ?_)
  refine pr_ck (fun hk42_1 => ?_)
  exact pr_some
theorem g_X7_worth_pr {x1 x2 x3 x4 : Int} {D : ga_D} : ga_pr D (g_X7_worth x1 x2 x3 x4 D) := by
  unfold g_X7_worth
  refine pr_ite (fun c1 => ?_) (fun c1 => ?_)
  refine pr_bind (g_X7_layOut_pr) (fun r50 D50 => ?_)
  refine pr_bind (g_X8_solve_pr) (fun r57 D57 => ?_)
  refine pr_bind (g_X7_gather_pr) (fun r67 D67 => ?_)
  refine g_X7_worth_l73_pr (fun D112 => ?_) _ _ _ _ _ 
  exact pr_some
  refine pr_ite (fun c13 => ?_) (fun c13 => ?_)
  refine g_X7_worth_j21_pr _ _ _ _ 
  refine g_X7_worth_j21_pr _ _ _ _ 
theorem g_X9_gcd_l16_pr  {k48 : Int → Int → ga_D → ga_S} (hk48 : ∀ (x1 x3 : Int) (D : ga_D), ga_pr D (k48 x1 x3 D)) : ∀ (n : Nat) (x0 x1 x3 x4 : Int) (D : ga_D), ga_pr D (g_X9_gcd_l16 n x0 x1 x3 x4 D k48) := by
  intro n
  induction n with
  | zero => intro x0 x1 x3 x4 D; exact pr_none
  | succ n ih =>
    intro x0 x1 x3 x4 D
    show ga_pr D (ga_bind (g_X10_isZero x4 D) (fun r18 D18 => ga_ck (ga_K x4 = (9, 0)) (if r18 ≠ 0 then (k48 x1 x3 D18) else (ga_ck (ga_K x0 = (8, 0)) (ga_bind (g_X9_divide x0 x3 x4 ((x0 + 3)) D18) (fun r32 D32 => g_X9_gcd_l16 n x0 x1 x4 x3 D32 k48))))))
    refine pr_bind (g_X10_isZero_pr) (fun r18 D18 => ?_)
    refine pr_ck (fun hk18_0 => ?_)
    refine pr_ite (fun c21 => ?_) (fun c21 => ?_)
    exact hk48 _ _ _ 
    refine pr_ck (fun hk29_0 => ?_)
    refine pr_bind (g_X9_divide_pr) (fun r32 D32 => ?_)
    exact ih _ _ _ _ _ 
theorem g_X9_gcd_pr {x0 x1 x2 : Int} {D : ga_D} : ga_pr D (g_X9_gcd x0 x1 x2 D) := by
  unfold g_X9_gcd
  refine pr_ck (fun hk1_0 => ?_)
  refine pr_bind (g_X10_copy_pr) (fun r5 D5 => ?_)
  refine g_X9_gcd_l16_pr (fun x1 x3 D48 => ?_) _ _ _ _ _ _ 
  refine pr_ck (fun hn50 => ?_)
  refine pr_ite (fun c50 => ?_) (fun c50 => ?_)
  refine pr_ck (fun hk60_0 => ?_)
  refine pr_upd (ga_Pn hk60_0 rfl) (fun D60 => ?_)
  exact pr_some
  refine pr_bind (g_X10_copy_pr) (fun r55 D55 => ?_)
  refine pr_ck (fun hk55_0 => ?_)
  refine pr_upd (ga_Pn hk55_0 rfl) (fun D60 => ?_)
  exact pr_some
theorem g_X7_lower_pr {x1 : Int} {D : ga_D} : ga_pr D (g_X7_lower x1 D) := by
  unfold g_X7_lower
  refine pr_ck (fun hk1_0 => ?_)
  refine pr_bind (g_X10_isZero_pr) (fun r4 D4 => ?_)
  refine pr_ite (fun c7 => ?_) (fun c7 => ?_)
  refine pr_bind (g_X10_copy_pr) (fun r27 D27 => ?_)
  refine pr_upd (ga_Pn K_4350 rfl) (fun D35 => ?_)
  refine pr_bind (g_X9_gcd_pr) (fun r50 D50 => ?_)
  refine pr_bind (g_X9_exact_pr) (fun r65 D65 => ?_)
  refine pr_bind (g_X9_exact_pr) (fun r80 D80 => ?_)
  exact pr_some
  refine pr_bind (g_X10_set_pr) (fun r15 D15 => ?_)
  exact pr_some
theorem g_X7_slope_j319_pr  {k251 : Int → Int → Int → Int → ga_D → ga_S} (hk251 : ∀ (x1 x2 x5 x8 : Int) (D : ga_D), ga_pr D (k251 x1 x2 x5 x8 D)) (x1 x2 x5 x8 s0 s1 : Int) (D : ga_D) : ga_pr D (g_X7_slope_j319 x1 x2 x5 x8 s0 s1 D k251) := by
  unfold g_X7_slope_j319
  refine pr_ck (fun hk319_0 => ?_)
  refine pr_ck (fun hp319 => ?_)
  refine pr_upd (ga_Pn hk319_0 rfl) (fun D319 => ?_)
  refine pr_bind (g_X9_subtract_pr) (fun r330 D330 => ?_)
  refine pr_let (fun v333 => ?_)
  exact hk251 _ _ _ _ _ 
theorem g_X7_slope_j318_pr  {k251 : Int → Int → Int → Int → ga_D → ga_S} (hk251 : ∀ (x1 x2 x5 x8 : Int) (D : ga_D), ga_pr D (k251 x1 x2 x5 x8 D)) (x1 x2 x5 x8 s0 : Int) (D : ga_D) : ga_pr D (g_X7_slope_j318 x1 x2 x5 x8 s0 D k251) := by
  unfold g_X7_slope_j318
  refine g_X7_slope_j319_pr (fun x1 x2 x5 x8 D251 => ?_) _ _ _ _ _ _ _ 
  exact hk251 _ _ _ _ _ 
theorem g_X7_slope_l251_pr  {k339 : Int → ga_D → ga_S} (hk339 : ∀ (x5 : Int) (D : ga_D), ga_pr D (k339 x5 D)) : ∀ (n : Nat) (x1 x2 x5 x8 : Int) (D : ga_D), ga_pr D (g_X7_slope_l251 n x1 x2 x5 x8 D k339) := by
  intro n
  induction n with
  | zero => intro x1 x2 x5 x8 D; exact pr_none
  | succ n ih =>
    intro x1 x2 x5 x8 D
    show ga_pr D (if D 4114 0 ≤ x8 then (k339 x5 D) else (ga_bind (g_X7_unknown x1 x8 D) (fun r268 D268 => ga_bind (g_X10_copy 4346 r268 D268) (fun r271 D271 => ga_bind (g_X7_turned x1 x8 x2 D271) (fun r284 D284 => ga_bind (g_X7_scaleInto 4346 r284 D284) (fun r287 D287 => if D287 4346 2 ≠ 0 then (g_X7_slope_j318 x1 x2 x5 x8 4346 D287 (fun x1 x2 x5 x8 D251 => g_X7_slope_l251 n x1 x2 x5 x8 D251 k339)) else (ga_bind (g_X10_isZero 4346 D287) (fun r308 D308 => if r308 ≠ 0 then (g_X7_slope_j318 x1 x2 x5 x8 4346 D308 (fun x1 x2 x5 x8 D251 => g_X7_slope_l251 n x1 x2 x5 x8 D251 k339)) else (g_X7_slope_j319 x1 x2 x5 x8 1 4346 D308 (fun x1 x2 x5 x8 D251 => g_X7_slope_l251 n x1 x2 x5 x8 D251 k339))))))))))
    refine pr_ite (fun c257 => ?_) (fun c257 => ?_)
    exact hk339 _ _ 
    refine pr_bind (g_X7_unknown_pr) (fun r268 D268 => ?_)
    refine pr_bind (g_X10_copy_pr) (fun r271 D271 => ?_)
    refine pr_bind (g_X7_turned_pr) (fun r284 D284 => ?_)
    refine pr_bind (g_X7_scaleInto_pr) (fun r287 D287 => ?_)
    refine pr_ite (fun c301 => ?_) (fun c301 => ?_)
    refine g_X7_slope_j318_pr (fun x1 x2 x5 x8 D251 => ?_) _ _ _ _ _ _ 
    exact ih _ _ _ _ _ 
    refine pr_bind (g_X10_isZero_pr) (fun r308 D308 => ?_)
    refine pr_ite (fun c311 => ?_) (fun c311 => ?_)
    refine g_X7_slope_j318_pr (fun x1 x2 x5 x8 D251 => ?_) _ _ _ _ _ _ 
    exact ih _ _ _ _ _ 
    refine g_X7_slope_j319_pr (fun x1 x2 x5 x8 D251 => ?_) _ _ _ _ _ _ _ 
    exact ih _ _ _ _ _ 
theorem g_X7_slope_j59_pr  (x1 x2 x3 x4 x5 s0 : Int) (D : ga_D) : ga_pr D (g_X7_slope_j59 x1 x2 x3 x4 x5 s0 D) := by
  unfold g_X7_slope_j59
  refine pr_ite (fun c63 => ?_) (fun c63 => ?_)
  exact pr_some
  refine pr_bind (g_X7_loop_pr) (fun r67 D67 => ?_)
  refine pr_ite (fun c71 => ?_) (fun c71 => ?_)
  refine pr_ck (fun ha88 => ?_)
  refine pr_bind (g_X7_worth_pr) (fun r96 D96 => ?_)
  refine pr_ck (fun ha112 => ?_)
  refine pr_ck (fun ha116 => ?_)
  refine pr_bind (g_X7_worth_pr) (fun r124 D124 => ?_)
  refine pr_bind (g_X9_multiply_pr) (fun r145 D145 => ?_)
  refine pr_bind (g_X9_multiply_pr) (fun r166 D166 => ?_)
  refine pr_bind (g_X9_subtract_pr) (fun r177 D177 => ?_)
  refine pr_bind (g_X9_multiply_pr) (fun r198 D198 => ?_)
  refine pr_bind (g_X11_set_pr) (fun r213 D213 => ?_)
  refine pr_bind (g_X7_lower_pr) (fun r221 D221 => ?_)
  refine pr_bind (g_X7_layOut_pr) (fun r228 D228 => ?_)
  refine pr_bind (g_X8_solve_pr) (fun r235 D235 => ?_)
  refine pr_bind (g_X10_set_pr) (fun r245 D245 => ?_)
  refine g_X7_slope_l251_pr (fun x5 D339 => ?_) _ _ _ _ _ _ 
  refine pr_bind (g_X8_under_pr) (fun r347 D347 => ?_)
  refine pr_bind (g_X10_copy_pr) (fun r350 D350 => ?_)
  refine pr_bind (g_X7_scaleInto_pr) (fun r361 D361 => ?_)
  refine pr_bind (g_X11_set_pr) (fun r376 D376 => ?_)
  refine pr_bind (g_X7_lower_pr) (fun r384 D384 => ?_)
  refine pr_bind (g_X9_multiply_pr) (fun r405 D405 => ?_)
  refine pr_bind (g_X9_multiply_pr) (fun r426 D426 => ?_)
  refine pr_bind (g_X11_set_pr) (fun r441 D441 => ?_)
  refine pr_bind (g_X11_part_pr) (fun r450 D450 => ?_)
  exact pr_some
  exact pr_some
theorem g_X7_slope_j58_pr  (x1 x2 x3 x4 x5 : Int) (D : ga_D) : ga_pr D (g_X7_slope_j58 x1 x2 x3 x4 x5 D) := by
  unfold g_X7_slope_j58
  refine g_X7_slope_j59_pr _ _ _ _ _ _ _ 
theorem g_X7_slope_pr {x1 x2 x3 x4 x5 : Int} {D : ga_D} : ga_pr D (g_X7_slope x1 x2 x3 x4 x5 D) := by
  unfold g_X7_slope
  refine pr_bind (g_X7_isMachine_pr) (fun r2 D2 => ?_)
  refine pr_ite (fun c5 => ?_) (fun c5 => ?_)
  refine g_X7_slope_j58_pr _ _ _ _ _ _ 
  refine pr_bind (g_X7_isKind_pr) (fun r10 D10 => ?_)
  refine pr_ite (fun c13 => ?_) (fun c13 => ?_)
  refine g_X7_slope_j58_pr _ _ _ _ _ _ 
  refine pr_ite (fun c17 => ?_) (fun c17 => ?_)
  refine g_X7_slope_j58_pr _ _ _ _ _ _ 
  refine pr_ck (fun ha26 => ?_)
  refine pr_ite (fun c29 => ?_) (fun c29 => ?_)
  refine g_X7_slope_j58_pr _ _ _ _ _ _ 
  refine pr_ite (fun c34 => ?_) (fun c34 => ?_)
  refine g_X7_slope_j58_pr _ _ _ _ _ _ 
  refine pr_ite (fun c43 => ?_) (fun c43 => ?_)
  refine g_X7_slope_j58_pr _ _ _ _ _ _ 
  refine pr_bind (g_X7_isPart_pr) (fun r48 D48 => ?_)
  refine pr_ite (fun c51 => ?_) (fun c51 => ?_)
  refine g_X7_slope_j58_pr _ _ _ _ _ _ 
  refine g_X7_slope_j59_pr _ _ _ _ _ _ _ 
theorem g_X7_purity_l89_pr  {k129 : Int → Int → Int → ga_D → ga_S} (hk129 : ∀ (x1 x2 x3 : Int) (D : ga_D), ga_pr D (k129 x1 x2 x3 D)) : ∀ (n : Nat) (x1 x2 x3 x4 : Int) (D : ga_D), ga_pr D (g_X7_purity_l89 n x1 x2 x3 x4 D k129) := by
  intro n
  induction n with
  | zero => intro x1 x2 x3 x4 D; exact pr_none
  | succ n ih =>
    intro x1 x2 x3 x4 D
    show ga_pr D (if D 4114 0 ≤ x4 then (k129 x1 x2 x3 D) else (ga_ck (0 ≤ aw_w32 ((aw_w32 (9 + (aw_w32 (3 * x1)))) + x4) ∧ aw_w32 ((aw_w32 (9 + (aw_w32 (3 * x1)))) + x4) < 18) (ga_bind (g_X11_add 4323 ((21 * (aw_w32 ((aw_w32 (9 + (aw_w32 (3 * x1)))) + x4)) + 4413)) 0 D) (fun r120 D120 => ga_let (aw_w32 (x4 + 1)) (fun v123 => g_X7_purity_l89 n x1 x2 x3 v123 D120 k129)))))
    refine pr_ite (fun c95 => ?_) (fun c95 => ?_)
    exact hk129 _ _ _ _ 
    refine pr_ck (fun ha115 => ?_)
    refine pr_bind (g_X11_add_pr) (fun r120 D120 => ?_)
    refine pr_let (fun v123 => ?_)
    exact ih _ _ _ _ _ 
theorem g_X7_purity_pr {x1 x2 x3 : Int} {D : ga_D} : ga_pr D (g_X7_purity x1 x2 x3 D) := by
  unfold g_X7_purity
  refine pr_ite (fun c4 => ?_) (fun c4 => ?_)
  exact pr_some
  refine pr_ite (fun c8 => ?_) (fun c8 => ?_)
  exact pr_some
  refine pr_ite (fun c16 => ?_) (fun c16 => ?_)
  exact pr_some
  refine pr_bind (g_X7_isKind_pr) (fun r21 D21 => ?_)
  refine pr_ite (fun c24 => ?_) (fun c24 => ?_)
  exact pr_some
  refine pr_bind (g_X7_isPart_pr) (fun r28 D28 => ?_)
  refine pr_ite (fun c31 => ?_) (fun c31 => ?_)
  refine pr_ck (fun ha55 => ?_)
  refine pr_bind (g_X10_copy_pr) (fun r59 D59 => ?_)
  refine pr_ck (fun ha79 => ?_)
  refine pr_bind (g_X10_copy_pr) (fun r83 D83 => ?_)
  refine g_X7_purity_l89_pr (fun x1 x2 x3 D129 => ?_) _ _ _ _ _ _ 
  refine pr_bind (g_X10_isZero_pr) (fun r136 D136 => ?_)
  refine pr_ite (fun c139 => ?_) (fun c139 => ?_)
  refine pr_ck (fun ha162 => ?_)
  refine pr_bind (g_X10_copy_pr) (fun r166 D166 => ?_)
  refine pr_bind (g_X10_copy_pr) (fun r180 D180 => ?_)
  refine pr_bind (g_X11_set_pr) (fun r195 D195 => ?_)
  refine pr_bind (g_X11_part_pr) (fun r203 D203 => ?_)
  exact pr_some
  exact pr_some
  exact pr_some
theorem g_X7_change_pr {x1 x2 x3 x4 x6 : Int} {D : ga_D} : ga_pr D (g_X7_change x1 x2 x3 x4 x6 D) := by
  unfold g_X7_change
  refine pr_bind (g_X7_share_pr) (fun r8 D8 => ?_)
  refine pr_ite (fun c15 => ?_) (fun c15 => ?_)
  refine pr_ck (fun hr26 => ?_)
  exact pr_some
  refine pr_bind (g_X7_solve_pr) (fun r19 D19 => ?_)
  refine pr_ck (fun hr26 => ?_)
  exact pr_some
theorem g_X7_comes_pr {x1 x2 : Int} {D : ga_D} : ga_pr D (g_X7_comes x1 x2 D) := by
  unfold g_X7_comes
  refine pr_bind (g_X7_layOut_pr) (fun r4 D4 => ?_)
  refine pr_bind (g_X8_solve_pr) (fun r11 D11 => ?_)
  refine pr_bind (g_X7_gather_pr) (fun r22 D22 => ?_)
  refine pr_bind (g_X11_compare_pr) (fun r30 D30 => ?_)
  refine pr_ite (fun c33 => ?_) (fun c33 => ?_)
  exact pr_some
  exact pr_some
theorem g_X7_find_j153_pr  {k93 : Int → Int → Int → Int → Int → Int → Int → ga_D → ga_S} (hk93 : ∀ (x2 x3 x5 x6 x7 x8 x9 : Int) (D : ga_D), ga_pr D (k93 x2 x3 x5 x6 x7 x8 x9 D)) (x2 x3 x5 x6 x7 x8 s0 : Int) (D : ga_D) : ga_pr D (g_X7_find_j153 x2 x3 x5 x6 x7 x8 s0 D k93) := by
  unfold g_X7_find_j153
  refine pr_ite (fun c159 => ?_) (fun c159 => ?_)
  refine pr_let (fun v168 => ?_)
  exact hk93 _ _ _ _ _ _ _ _ 
  refine pr_let (fun v168 => ?_)
  exact hk93 _ _ _ _ _ _ _ _ 
theorem g_X7_find_j152_pr  {k93 : Int → Int → Int → Int → Int → Int → Int → ga_D → ga_S} (hk93 : ∀ (x2 x3 x5 x6 x7 x8 x9 : Int) (D : ga_D), ga_pr D (k93 x2 x3 x5 x6 x7 x8 x9 D)) (x2 x3 x5 x6 x7 x8 : Int) (D : ga_D) : ga_pr D (g_X7_find_j152 x2 x3 x5 x6 x7 x8 D k93) := by
  unfold g_X7_find_j152
  refine g_X7_find_j153_pr (fun x2 x3 x5 x6 x7 x8 x9 D93 => ?_) _ _ _ _ _ _ _ _ 
  exact hk93 _ _ _ _ _ _ _ _ 
theorem g_X7_find_l93_pr  {k173 : Int → Int → Int → Int → ga_D → ga_S} (hk173 : ∀ (x5 x6 x8 x9 : Int) (D : ga_D), ga_pr D (k173 x5 x6 x8 x9 D)) : ∀ (n : Nat) (x2 x3 x5 x6 x7 x8 x9 : Int) (D : ga_D), ga_pr D (g_X7_find_l93 n x2 x3 x5 x6 x7 x8 x9 D k173) := by
  intro n
  induction n with
  | zero => intro x2 x3 x5 x6 x7 x8 x9 D; exact pr_none
  | succ n ih =>
    intro x2 x3 x5 x6 x7 x8 x9 D
    show ga_pr D (if 12 < x8 then (k173 x5 x6 x8 x9 D) else (if x9 ≠ 0 then (k173 x5 x6 x8 x9 D) else (ga_ck (0 ≤ x5 ∧ x5 < 27) (ga_let (ga_set D 4117 x5 (aw_w32 (2310 * x8))) (fun D117 => ga_ck (0 ≤ x5 ∧ x5 < 27) (if x7 < D117 4117 x5 then (g_X7_find_j152 x2 x3 x5 x6 x7 x8 D117 (fun x2 x3 x5 x6 x7 x8 x9 D93 => g_X7_find_l93 n x2 x3 x5 x6 x7 x8 x9 D93 k173)) else (ga_bind (g_X7_loop D117) (fun r131 D131 => if r131 ≠ (-1) then (g_X7_find_j152 x2 x3 x5 x6 x7 x8 D131 (fun x2 x3 x5 x6 x7 x8 x9 D93 => g_X7_find_l93 n x2 x3 x5 x6 x7 x8 x9 D93 k173)) else (ga_bind (g_X7_comes x2 (aw_w32 x3) D131) (fun r142 D142 => if r142 = 0 then (g_X7_find_j152 x2 x3 x5 x6 x7 x8 D142 (fun x2 x3 x5 x6 x7 x8 x9 D93 => g_X7_find_l93 n x2 x3 x5 x6 x7 x8 x9 D93 k173)) else (g_X7_find_j153 x2 x3 x5 x6 x7 x8 1 D142 (fun x2 x3 x5 x6 x7 x8 x9 D93 => g_X7_find_l93 n x2 x3 x5 x6 x7 x8 x9 D93 k173))))))))))))
    refine pr_ite (fun c97 => ?_) (fun c97 => ?_)
    exact hk173 _ _ _ _ _ 
    refine pr_ite (fun c102 => ?_) (fun c102 => ?_)
    exact hk173 _ _ _ _ _ 
    refine pr_ck (fun ha117 => ?_)
    refine pr_upd (ga_Pn K_4117 rfl) (fun D117 => ?_)
    refine pr_ck (fun ha124 => ?_)
    refine pr_ite (fun c127 => ?_) (fun c127 => ?_)
    refine g_X7_find_j152_pr (fun x2 x3 x5 x6 x7 x8 x9 D93 => ?_) _ _ _ _ _ _ _ 
    exact ih _ _ _ _ _ _ _ _ 
    refine pr_bind (g_X7_loop_pr) (fun r131 D131 => ?_)
    refine pr_ite (fun c135 => ?_) (fun c135 => ?_)
    refine g_X7_find_j152_pr (fun x2 x3 x5 x6 x7 x8 x9 D93 => ?_) _ _ _ _ _ _ _ 
    exact ih _ _ _ _ _ _ _ _ 
    refine pr_bind (g_X7_comes_pr) (fun r142 D142 => ?_)
    refine pr_ite (fun c145 => ?_) (fun c145 => ?_)
    refine g_X7_find_j152_pr (fun x2 x3 x5 x6 x7 x8 x9 D93 => ?_) _ _ _ _ _ _ _ 
    exact ih _ _ _ _ _ _ _ _ 
    refine g_X7_find_j153_pr (fun x2 x3 x5 x6 x7 x8 x9 D93 => ?_) _ _ _ _ _ _ _ _ 
    exact ih _ _ _ _ _ _ _ _ 
theorem g_X7_find_j173_pr  (x5 x6 x8 x9 : Int) (D : ga_D) : ga_pr D (g_X7_find_j173 x5 x6 x8 x9 D) := by
  unfold g_X7_find_j173
  refine pr_ite (fun c175 => ?_) (fun c175 => ?_)
  refine pr_bind (g_X7_solve_pr) (fun r190 D190 => ?_)
  exact pr_some
  refine pr_ck (fun ha186 => ?_)
  refine pr_upd (ga_Pn K_4117 rfl) (fun D186 => ?_)
  exact pr_some
theorem g_X7_find_pr {x1 x2 x3 : Int} {D : ga_D} : ga_pr D (g_X7_find x1 x2 x3 D) := by
  unfold g_X7_find
  refine pr_bind (g_X7_isMachine_pr) (fun r2 D2 => ?_)
  refine pr_ite (fun c5 => ?_) (fun c5 => ?_)
  exact pr_some
  refine pr_bind (g_X7_isKind_pr) (fun r10 D10 => ?_)
  refine pr_ite (fun c13 => ?_) (fun c13 => ?_)
  exact pr_some
  refine pr_ck (fun ha21 => ?_)
  refine pr_ite (fun c23 => ?_) (fun c23 => ?_)
  exact pr_some
  refine pr_ite (fun c30 => ?_) (fun c30 => ?_)
  exact pr_some
  refine pr_ite (fun c36 => ?_) (fun c36 => ?_)
  exact pr_some
  refine pr_ite (fun c44 => ?_) (fun c44 => ?_)
  refine pr_let (fun v57 => ?_)
  refine pr_ck (fun ha65 => ?_)
  refine pr_let (fun v66 => ?_)
  refine pr_ck (fun ha76 => ?_)
  refine pr_bind (g_X7_shareOf_pr) (fun r79 D79 => ?_)
  refine pr_let (fun v85 => ?_)
  refine g_X7_find_l93_pr (fun x5 x6 x8 x9 D173 => ?_) _ _ _ _ _ _ _ _ _ 
  refine g_X7_find_j173_pr _ _ _ _ _ 
  exact pr_some
theorem g_X7_kept_pr {D : ga_D} : ga_pr D (g_X7_kept D) := by
  unfold g_X7_kept
  refine pr_ck (fun hr4 => ?_)
  exact pr_some
