theorem g_X50_isMachine_pr {x1 : Int} {D : ga_D} : ga_pr D (g_X50_isMachine x1 D) := by
  unfold g_X50_isMachine
  refine pr_ite (fun c1 => ?_) (fun c1 => ?_)
  exact pr_some
  refine pr_ck (fun ha10 => ?_)
  refine pr_ite (fun c11 => ?_) (fun c11 => ?_)
  exact pr_some
  exact pr_some
theorem g_X50_isKind_pr {x1 : Int} {D : ga_D} : ga_pr D (g_X50_isKind x1 D) := by
  unfold g_X50_isKind
  refine pr_ite (fun c1 => ?_) (fun c1 => ?_)
  exact pr_some
  refine pr_ite (fun c9 => ?_) (fun c9 => ?_)
  exact pr_some
  exact pr_some
theorem g_X50_touch_pr {D : ga_D} : ga_pr D (g_X50_touch D) := by
  unfold g_X50_touch
  refine pr_upd (ga_Pn K_5163 rfl) (fun D2 => ?_)
  refine pr_ck (fun ha11 => ?_)
  refine pr_ck (fun ha14 => ?_)
  refine pr_upd (ga_Pn K_5190 rfl) (fun D14 => ?_)
  exact pr_some
theorem g_X50_feed_pr {x1 x2 x3 : Int} {D : ga_D} : ga_pr D (g_X50_feed x1 x2 x3 D) := by
  unfold g_X50_feed
  refine pr_bind (g_X50_isMachine_pr) (fun r2 D2 => ?_)
  refine pr_ite (fun c5 => ?_) (fun c5 => ?_)
  exact pr_some
  refine pr_bind (g_X50_isKind_pr) (fun r10 D10 => ?_)
  refine pr_ite (fun c13 => ?_) (fun c13 => ?_)
  exact pr_some
  refine pr_ite (fun c19 => ?_) (fun c19 => ?_)
  exact pr_some
  refine pr_ite (fun c27 => ?_) (fun c27 => ?_)
  refine pr_ck (fun ha43 => ?_)
  refine pr_upd (ga_Pn K_5173 rfl) (fun D43 => ?_)
  refine pr_bind (g_X50_touch_pr) (fun r45 D45 => ?_)
  exact pr_some
  exact pr_some
theorem g_X50_shareAt_pr {x1 x2 x3 x4 : Int} {D : ga_D} : ga_pr D (g_X50_shareAt x1 x2 x3 x4 D) := by
  unfold g_X50_shareAt
  exact pr_some
theorem g_X50_common_pr {x1 x2 x3 : Int} {D : ga_D} : ga_pr D (g_X50_common x1 x2 x3 D) := by
  unfold g_X50_common
  refine pr_bind (g_X50_shareAt_pr) (fun r9 D9 => ?_)
  refine pr_ck (fun ha12 => ?_)
  refine pr_bind (g_X50_shareAt_pr) (fun r23 D23 => ?_)
  refine pr_ck (fun ha26 => ?_)
  exact pr_some
theorem g_X50_part_j107_pr  (x4 x5 x7 x9 s0 s1 : Int) (D : ga_D) : ga_pr D (g_X50_part_j107 x4 x5 x7 x9 s0 s1 D) := by
  unfold g_X50_part_j107
  refine pr_let (fun v108 => ?_)
  refine pr_ite (fun c114 => ?_) (fun c114 => ?_)
  refine pr_ite (fun c124 => ?_) (fun c124 => ?_)
  exact pr_some
  exact pr_some
  exact pr_some
theorem g_X50_part_j94_pr  (x4 x5 x7 x9 s0 s1 : Int) (D : ga_D) : ga_pr D (g_X50_part_j94 x4 x5 x7 x9 s0 s1 D) := by
  unfold g_X50_part_j94
  refine pr_ite (fun c98 => ?_) (fun c98 => ?_)
  refine g_X50_part_j107_pr _ _ _ _ _ _ _ 
  refine g_X50_part_j107_pr _ _ _ _ _ _ _ 
theorem g_X50_part_pr {x1 x2 x3 x4 : Int} {D : ga_D} : ga_pr D (g_X50_part x1 x2 x3 x4 D) := by
  unfold g_X50_part
  refine pr_bind (g_X50_shareAt_pr) (fun r9 D9 => ?_)
  refine pr_ck (fun ha12 => ?_)
  refine pr_bind (g_X50_shareAt_pr) (fun r23 D23 => ?_)
  refine pr_ck (fun ha26 => ?_)
  refine pr_let (fun v29 => ?_)
  refine pr_bind (g_X50_shareAt_pr) (fun r40 D40 => ?_)
  refine pr_ck (fun ha43 => ?_)
  refine pr_bind (g_X50_shareAt_pr) (fun r54 D54 => ?_)
  refine pr_ck (fun ha57 => ?_)
  refine pr_let (fun v60 => ?_)
  refine pr_ck (fun ha71 => ?_)
  refine pr_let (fun v74 => ?_)
  refine pr_bind (g_X50_common_pr) (fun r80 D80 => ?_)
  refine pr_ite (fun c85 => ?_) (fun c85 => ?_)
  refine g_X50_part_j94_pr _ _ _ _ _ _ _ 
  refine g_X50_part_j94_pr _ _ _ _ _ _ _ 
theorem g_X50_layNode_l217_pr  {k273 : Int → Int → Int → Int → Int → Int → Int → Int → Int → Int → ga_D → ga_S} (hk273 : ∀ (x1 x2 x3 x4 x5 x7 x9 x10 x12 x14 : Int) (D : ga_D), ga_pr D (k273 x1 x2 x3 x4 x5 x7 x9 x10 x12 x14 D)) : ∀ (n : Nat) (x1 x2 x3 x4 x5 x7 x9 x10 x12 x14 x15 x16 : Int) (D : ga_D), ga_pr D (g_X50_layNode_l217 n x1 x2 x3 x4 x5 x7 x9 x10 x12 x14 x15 x16 D k273) := by
  intro n
  induction n with
  | zero => intro x1 x2 x3 x4 x5 x7 x9 x10 x12 x14 x15 x16 D; exact pr_none
  | succ n ih =>
    intro x1 x2 x3 x4 x5 x7 x9 x10 x12 x14 x15 x16 D
    show ga_pr D (if 3 ≤ x16 then (k273 x1 x2 x3 x4 x5 x7 x9 x10 x12 x14 D) else (if x15 < 0 then (k273 x1 x2 x3 x4 x5 x7 x9 x10 x12 x14 D) else (ga_ck (0 ≤ aw_w32 ((aw_w32 (9 * (aw_w32 ((aw_w32 (3 * x15)) + x16)))) + x4) ∧ aw_w32 ((aw_w32 (9 * (aw_w32 ((aw_w32 (3 * x15)) + x16)))) + x4) < 81) (ga_ck (0 ≤ aw_w32 ((aw_w32 (9 * (aw_w32 ((aw_w32 (3 * x14)) + x16)))) + x4) ∧ aw_w32 ((aw_w32 (9 * (aw_w32 ((aw_w32 (3 * x14)) + x16)))) + x4) < 81) (ga_ck (0 ≤ aw_w32 ((aw_w32 (9 * (aw_w32 ((aw_w32 (3 * x15)) + x16)))) + x4) ∧ aw_w32 ((aw_w32 (9 * (aw_w32 ((aw_w32 (3 * x15)) + x16)))) + x4) < 81) (ga_let (ga_set D 5179 (aw_w32 ((aw_w32 (9 * (aw_w32 ((aw_w32 (3 * x15)) + x16)))) + x4)) (aw_w64 ((D 5179 (aw_w32 ((aw_w32 (9 * (aw_w32 ((aw_w32 (3 * x15)) + x16)))) + x4))) + (D 5180 (aw_w32 ((aw_w32 (9 * (aw_w32 ((aw_w32 (3 * x14)) + x16)))) + x4)))))) (fun D266 => ga_let (aw_w32 (x16 + 1)) (fun v267 => g_X50_layNode_l217 n x1 x2 x3 x4 x5 x7 x9 x10 x12 x14 x15 v267 D266 k273))))))))
    refine pr_ite (fun c220 => ?_) (fun c220 => ?_)
    exact hk273 _ _ _ _ _ _ _ _ _ _ _ 
    refine pr_ite (fun c225 => ?_) (fun c225 => ?_)
    exact hk273 _ _ _ _ _ _ _ _ _ _ _ 
    refine pr_ck (fun ha246 => ?_)
    refine pr_ck (fun ha264 => ?_)
    refine pr_ck (fun ha266 => ?_)
    refine pr_upd (ga_Pn K_5179 rfl) (fun D266 => ?_)
    refine pr_let (fun v267 => ?_)
    exact ih _ _ _ _ _ _ _ _ _ _ _ _ _ 
theorem g_X50_layNode_j196_pr  {k99 : Int → Int → Int → Int → Int → Int → Int → Int → Int → Int → ga_D → ga_S} (hk99 : ∀ (x1 x2 x3 x4 x5 x7 x9 x10 x12 x14 : Int) (D : ga_D), ga_pr D (k99 x1 x2 x3 x4 x5 x7 x9 x10 x12 x14 D)) (x1 x2 x3 x4 x5 x7 x9 x10 x12 x14 : Int) (D : ga_D) : ga_pr D (g_X50_layNode_j196 x1 x2 x3 x4 x5 x7 x9 x10 x12 x14 D k99) := by
  unfold g_X50_layNode_j196
  refine pr_ck (fun ha211 => ?_)
  refine pr_let (fun v212 => ?_)
  refine g_X50_layNode_l217_pr (fun x1 x2 x3 x4 x5 x7 x9 x10 x12 x14 D273 => ?_) _ _ _ _ _ _ _ _ _ _ _ _ _ _ 
  refine pr_let (fun v273 => ?_)
  exact hk99 _ _ _ _ _ _ _ _ _ _ _ 
theorem g_X50_layNode_l99_pr  {k279 : ga_D → ga_S} (hk279 : ∀ (D : ga_D), ga_pr D (k279 D)) : ∀ (n : Nat) (x1 x2 x3 x4 x5 x7 x9 x10 x12 x14 : Int) (D : ga_D), ga_pr D (g_X50_layNode_l99 n x1 x2 x3 x4 x5 x7 x9 x10 x12 x14 D k279) := by
  intro n
  induction n with
  | zero => intro x1 x2 x3 x4 x5 x7 x9 x10 x12 x14 D; exact pr_none
  | succ n ih =>
    intro x1 x2 x3 x4 x5 x7 x9 x10 x12 x14 D
    show ga_pr D (ga_ck (0 ≤ aw_w32 ((aw_w32 (3 * x1)) + x2) ∧ aw_w32 ((aw_w32 (3 * x1)) + x2) < 6) (if D 5166 (aw_w32 ((aw_w32 (3 * x1)) + x2)) ≤ x14 then (k279 D) else (ga_ck (0 ≤ aw_w32 ((aw_w32 (9 * (aw_w32 ((aw_w32 (3 * x14)) + x3)))) + x4) ∧ aw_w32 ((aw_w32 (9 * (aw_w32 ((aw_w32 (3 * x14)) + x3)))) + x4) < 81) (ga_bind (g_X50_part x1 x2 x3 x14 D) (fun r146 D146 => ga_ck (0 ≤ aw_w32 ((aw_w32 (9 * (aw_w32 ((aw_w32 (3 * x14)) + x3)))) + x4) ∧ aw_w32 ((aw_w32 (9 * (aw_w32 ((aw_w32 (3 * x14)) + x3)))) + x4) < 81) (ga_let (ga_set D146 5180 (aw_w32 ((aw_w32 (9 * (aw_w32 ((aw_w32 (3 * x14)) + x3)))) + x4)) (aw_w64 ((D 5180 (aw_w32 ((aw_w32 (9 * (aw_w32 ((aw_w32 (3 * x14)) + x3)))) + x4))) + (aw_w64 ((aw_w64 ((aw_w64 (x7 - x5)) * x12)) * r146))))) (fun D151 => if x5 ≤ 0 then (g_X50_layNode_j196 x1 x2 x3 x4 x5 x7 x9 x10 x12 x14 D151 (fun x1 x2 x3 x4 x5 x7 x9 x10 x12 x14 D99 => g_X50_layNode_l99 n x1 x2 x3 x4 x5 x7 x9 x10 x12 x14 D99 k279)) else (ga_ck (0 ≤ aw_w32 ((aw_w32 (9 * (aw_w32 ((aw_w32 (3 * x14)) + x9)))) + x4) ∧ aw_w32 ((aw_w32 (9 * (aw_w32 ((aw_w32 (3 * x14)) + x9)))) + x4) < 81) (ga_bind (g_X50_part x1 x2 x9 x14 D151) (fun r190 D190 => ga_ck (0 ≤ aw_w32 ((aw_w32 (9 * (aw_w32 ((aw_w32 (3 * x14)) + x9)))) + x4) ∧ aw_w32 ((aw_w32 (9 * (aw_w32 ((aw_w32 (3 * x14)) + x9)))) + x4) < 81) (ga_let (ga_set D190 5180 (aw_w32 ((aw_w32 (9 * (aw_w32 ((aw_w32 (3 * x14)) + x9)))) + x4)) (aw_w64 ((D151 5180 (aw_w32 ((aw_w32 (9 * (aw_w32 ((aw_w32 (3 * x14)) + x9)))) + x4))) + (aw_w64 ((aw_w64 (x5 * x10)) * r190))))) (fun D195 => g_X50_layNode_j196 x1 x2 x3 x4 x5 x7 x9 x10 x12 x14 D195 (fun x1 x2 x3 x4 x5 x7 x9 x10 x12 x14 D99 => g_X50_layNode_l99 n x1 x2 x3 x4 x5 x7 x9 x10 x12 x14 D99 k279)))))))))))))
    refine pr_ck (fun ha110 => ?_)
    refine pr_ite (fun c111 => ?_) (fun c111 => ?_)
    exact hk279 _ 
    refine pr_ck (fun ha131 => ?_)
    refine pr_bind (g_X50_part_pr) (fun r146 D146 => ?_)
    refine pr_ck (fun ha151 => ?_)
    refine pr_upd (ga_Pn K_5180 rfl) (fun D151 => ?_)
    refine pr_ite (fun c156 => ?_) (fun c156 => ?_)
    refine g_X50_layNode_j196_pr (fun x1 x2 x3 x4 x5 x7 x9 x10 x12 x14 D99 => ?_) _ _ _ _ _ _ _ _ _ _ _ 
    exact ih _ _ _ _ _ _ _ _ _ _ _ 
    refine pr_ck (fun ha177 => ?_)
    refine pr_bind (g_X50_part_pr) (fun r190 D190 => ?_)
    refine pr_ck (fun ha195 => ?_)
    refine pr_upd (ga_Pn K_5180 rfl) (fun D195 => ?_)
    refine g_X50_layNode_j196_pr (fun x1 x2 x3 x4 x5 x7 x9 x10 x12 x14 D99 => ?_) _ _ _ _ _ _ _ _ _ _ _ 
    exact ih _ _ _ _ _ _ _ _ _ _ _ 
theorem g_X50_layNode_j79_pr  (x1 x2 x3 x4 x5 x7 x9 x10 s0 : Int) (D : ga_D) : ga_pr D (g_X50_layNode_j79 x1 x2 x3 x4 x5 x7 x9 x10 s0 D) := by
  unfold g_X50_layNode_j79
  refine pr_ck (fun ha95 => ?_)
  refine pr_upd (ga_Pn K_5178 rfl) (fun D95 => ?_)
  refine g_X50_layNode_l99_pr (fun D279 => ?_) _ _ _ _ _ _ _ _ _ _ _ _ 
  exact pr_some
theorem g_X50_layNode_pr {x1 x2 x3 : Int} {D : ga_D} : ga_pr D (g_X50_layNode x1 x2 x3 D) := by
  unfold g_X50_layNode
  refine pr_let (fun v5 => ?_)
  refine pr_ck (fun ha18 => ?_)
  refine pr_let (fun v20 => ?_)
  refine pr_ck (fun ha33 => ?_)
  refine pr_let (fun v35 => ?_)
  refine pr_ck (fun ha48 => ?_)
  refine pr_let (fun v49 => ?_)
  refine pr_bind (g_X50_common_pr) (fun r55 D55 => ?_)
  refine pr_ite (fun c64 => ?_) (fun c64 => ?_)
  refine g_X50_layNode_j79_pr _ _ _ _ _ _ _ _ _ _ 
  refine pr_bind (g_X50_common_pr) (fun r72 D72 => ?_)
  refine g_X50_layNode_j79_pr _ _ _ _ _ _ _ _ _ _ 
theorem g_X50_layOut_l2_pr  {k28 : Int → ga_D → ga_S} (hk28 : ∀ (x1 : Int) (D : ga_D), ga_pr D (k28 x1 D)) : ∀ (n : Nat) (x1 x2 : Int) (D : ga_D), ga_pr D (g_X50_layOut_l2 n x1 x2 D k28) := by
  intro n
  induction n with
  | zero => intro x1 x2 D; exact pr_none
  | succ n ih =>
    intro x1 x2 D
    show ga_pr D (if 81 ≤ x2 then (k28 x1 D) else (ga_ck (0 ≤ x2 ∧ x2 < 81) (ga_let (ga_set D 5179 x2 0) (fun D14 => ga_ck (0 ≤ x2 ∧ x2 < 81) (ga_let (ga_set D14 5180 x2 0) (fun D21 => ga_let (aw_w32 (x2 + 1)) (fun v22 => g_X50_layOut_l2 n x1 v22 D21 k28)))))))
    refine pr_ite (fun c5 => ?_) (fun c5 => ?_)
    exact hk28 _ _ 
    refine pr_ck (fun ha14 => ?_)
    refine pr_upd (ga_Pn K_5179 rfl) (fun D14 => ?_)
    refine pr_ck (fun ha21 => ?_)
    refine pr_upd (ga_Pn K_5180 rfl) (fun D21 => ?_)
    refine pr_let (fun v22 => ?_)
    exact ih _ _ _ 
theorem g_X50_layOut_l30_pr  {k85 : ga_D → ga_S} (hk85 : ∀ (D : ga_D), ga_pr D (k85 D)) : ∀ (n : Nat) (x1 x2 : Int) (D : ga_D), ga_pr D (g_X50_layOut_l30 n x1 x2 D k85) := by
  intro n
  induction n with
  | zero => intro x1 x2 D; exact pr_none
  | succ n ih =>
    intro x1 x2 D
    show ga_pr D (if 9 ≤ x2 then (k85 D) else (ga_ck (0 ≤ x2 ∧ x2 < 9) (ga_let (ga_set D 5178 x2 1) (fun D42 => ga_let (aw_w32 (Int.tdiv x2 3)) (fun v46 => ga_let (Int.tmod x2 3) (fun v50 => ga_ck (0 ≤ x1 ∧ x1 < 2) (if D42 5164 x1 ≤ v46 then (ga_let (aw_w32 (x2 + 1)) (fun v79 => g_X50_layOut_l30 n x1 v79 D42 k85)) else (if D42 5163 0 ≤ v50 then (ga_let (aw_w32 (x2 + 1)) (fun v79 => g_X50_layOut_l30 n x1 v79 D42 k85)) else (ga_bind (g_X50_layNode x1 v46 v50 D42) (fun r76 D76 => ga_let (aw_w32 (x2 + 1)) (fun v79 => g_X50_layOut_l30 n x1 v79 D76 k85)))))))))))
    refine pr_ite (fun c33 => ?_) (fun c33 => ?_)
    exact hk85 _ 
    refine pr_ck (fun ha42 => ?_)
    refine pr_upd (ga_Pn K_5178 rfl) (fun D42 => ?_)
    refine pr_let (fun v46 => ?_)
    refine pr_let (fun v50 => ?_)
    refine pr_ck (fun ha58 => ?_)
    refine pr_ite (fun c59 => ?_) (fun c59 => ?_)
    refine pr_let (fun v79 => ?_)
    exact ih _ _ _ 
    refine pr_ite (fun c68 => ?_) (fun c68 => ?_)
    refine pr_let (fun v79 => ?_)
    exact ih _ _ _ 
    refine pr_bind (g_X50_layNode_pr) (fun r76 D76 => ?_)
    refine pr_let (fun v79 => ?_)
    exact ih _ _ _ 
theorem g_X50_layOut_pr {x1 : Int} {D : ga_D} : ga_pr D (g_X50_layOut x1 D) := by
  unfold g_X50_layOut
  refine g_X50_layOut_l2_pr (fun x1 D28 => ?_) _ _ _ _ 
  refine g_X50_layOut_l30_pr (fun D85 => ?_) _ _ _ _ 
  exact pr_some
theorem g_X50_goes_j86_pr  {k49 : Int → Int → Int → Int → Int → Int → Int → Int → ga_D → ga_S} (hk49 : ∀ (x1 x2 x4 x5 x6 x7 x8 x9 : Int) (D : ga_D), ga_pr D (k49 x1 x2 x4 x5 x6 x7 x8 x9 D)) (x1 x2 x4 x5 x6 x7 x8 x9 s0 : Int) (D : ga_D) : ga_pr D (g_X50_goes_j86 x1 x2 x4 x5 x6 x7 x8 x9 s0 D k49) := by
  unfold g_X50_goes_j86
  refine pr_ite (fun c90 => ?_) (fun c90 => ?_)
  refine pr_let (fun v126 => ?_)
  exact hk49 _ _ _ _ _ _ _ _ _ 
  refine pr_ite (fun c95 => ?_) (fun c95 => ?_)
  refine pr_let (fun v126 => ?_)
  exact hk49 _ _ _ _ _ _ _ _ _ 
  refine pr_ite (fun c100 => ?_) (fun c100 => ?_)
  refine pr_let (fun v126 => ?_)
  exact hk49 _ _ _ _ _ _ _ _ _ 
  refine pr_ite (fun c116 => ?_) (fun c116 => ?_)
  refine pr_let (fun v126 => ?_)
  exact hk49 _ _ _ _ _ _ _ _ _ 
  refine pr_let (fun v126 => ?_)
  exact hk49 _ _ _ _ _ _ _ _ _ 
theorem g_X50_goes_l49_pr  {k132 : Int → Int → Int → Int → Int → Int → ga_D → ga_S} (hk132 : ∀ (x1 x2 x4 x5 x6 x7 : Int) (D : ga_D), ga_pr D (k132 x1 x2 x4 x5 x6 x7 D)) : ∀ (n : Nat) (x1 x2 x4 x5 x6 x7 x8 x9 : Int) (D : ga_D), ga_pr D (g_X50_goes_l49 n x1 x2 x4 x5 x6 x7 x8 x9 D k132) := by
  intro n
  induction n with
  | zero => intro x1 x2 x4 x5 x6 x7 x8 x9 D; exact pr_none
  | succ n ih =>
    intro x1 x2 x4 x5 x6 x7 x8 x9 D
    show ga_pr D (if D 5163 0 ≤ x9 then (k132 x1 x2 x4 x5 x6 x7 D) else (ga_ck (0 ≤ aw_w32 ((aw_w32 (9 * (aw_w32 ((aw_w32 (3 * x7)) + x9)))) + x5) ∧ aw_w32 ((aw_w32 (9 * (aw_w32 ((aw_w32 (3 * x7)) + x9)))) + x5) < 81) (if D 5180 (aw_w32 ((aw_w32 (9 * (aw_w32 ((aw_w32 (3 * x7)) + x9)))) + x5)) ≤ 0 then (g_X50_goes_j86 x1 x2 x4 x5 x6 x7 x8 x9 0 D (fun x1 x2 x4 x5 x6 x7 x8 x9 D49 => g_X50_goes_l49 n x1 x2 x4 x5 x6 x7 x8 x9 D49 k132)) else (g_X50_goes_j86 x1 x2 x4 x5 x6 x7 x8 x9 1 D (fun x1 x2 x4 x5 x6 x7 x8 x9 D49 => g_X50_goes_l49 n x1 x2 x4 x5 x6 x7 x8 x9 D49 k132)))))
    refine pr_ite (fun c55 => ?_) (fun c55 => ?_)
    exact hk132 _ _ _ _ _ _ _ 
    refine pr_ck (fun ha75 => ?_)
    refine pr_ite (fun c78 => ?_) (fun c78 => ?_)
    refine g_X50_goes_j86_pr (fun x1 x2 x4 x5 x6 x7 x8 x9 D49 => ?_) _ _ _ _ _ _ _ _ _ _ 
    exact ih _ _ _ _ _ _ _ _ _ 
    refine g_X50_goes_j86_pr (fun x1 x2 x4 x5 x6 x7 x8 x9 D49 => ?_) _ _ _ _ _ _ _ _ _ _ 
    exact ih _ _ _ _ _ _ _ _ _ 
theorem g_X50_goes_l13_pr  {k138 : Int → ga_D → ga_S} (hk138 : ∀ (x6 : Int) (D : ga_D), ga_pr D (k138 x6 D)) : ∀ (n : Nat) (x1 x2 x4 x5 x6 x7 : Int) (D : ga_D), ga_pr D (g_X50_goes_l13 n x1 x2 x4 x5 x6 x7 D k138) := by
  intro n
  induction n with
  | zero => intro x1 x2 x4 x5 x6 x7 D; exact pr_none
  | succ n ih =>
    intro x1 x2 x4 x5 x6 x7 D
    show ga_pr D (ga_ck (0 ≤ aw_w32 ((aw_w32 (3 * x1)) + x2) ∧ aw_w32 ((aw_w32 (3 * x1)) + x2) < 6) (if D 5166 (aw_w32 ((aw_w32 (3 * x1)) + x2)) ≤ x7 then (k138 x6 D) else (ga_ck (0 ≤ aw_w32 ((aw_w32 ((aw_w32 (9 * x1)) + (aw_w32 (3 * x2)))) + x7) ∧ aw_w32 ((aw_w32 ((aw_w32 (9 * x1)) + (aw_w32 (3 * x2)))) + x7) < 18) (ga_let (D 5167 (aw_w32 ((aw_w32 ((aw_w32 (9 * x1)) + (aw_w32 (3 * x2)))) + x7))) (fun v44 => g_X50_goes_l49 aw_fu x1 x2 x4 x5 x6 x7 v44 0 D (fun x1 x2 x4 x5 x6 x7 D132 => ga_let (aw_w32 (x7 + 1)) (fun v132 => g_X50_goes_l13 n x1 x2 x4 x5 x6 v132 D132 k138)))))))
    refine pr_ck (fun ha24 => ?_)
    refine pr_ite (fun c25 => ?_) (fun c25 => ?_)
    exact hk138 _ _ 
    refine pr_ck (fun ha43 => ?_)
    refine pr_let (fun v44 => ?_)
    refine g_X50_goes_l49_pr (fun x1 x2 x4 x5 x6 x7 D132 => ?_) _ _ _ _ _ _ _ _ _ _ 
    refine pr_let (fun v132 => ?_)
    exact ih _ _ _ _ _ _ _ 
theorem g_X50_goes_pr {x1 x2 x3 x4 : Int} {D : ga_D} : ga_pr D (g_X50_goes x1 x2 x3 x4 D) := by
  unfold g_X50_goes
  refine pr_let (fun v5 => ?_)
  refine g_X50_goes_l13_pr (fun x6 D138 => ?_) _ _ _ _ _ _ _ _ 
  refine pr_ck (fun hr140 => ?_)
  exact pr_some
theorem g_X50_stuck_l27_pr  {k71 : Int → Int → Int → Int → ga_D → ga_S} (hk71 : ∀ (x1 x2 x3 x4 : Int) (D : ga_D), ga_pr D (k71 x1 x2 x3 x4 D)) : ∀ (n : Nat) (x1 x2 x3 x4 x5 : Int) (D : ga_D), ga_pr D (g_X50_stuck_l27 n x1 x2 x3 x4 x5 D k71) := by
  intro n
  induction n with
  | zero => intro x1 x2 x3 x4 x5 D; exact pr_none
  | succ n ih =>
    intro x1 x2 x3 x4 x5 D
    show ga_pr D (if D 5163 0 ≤ x5 then (k71 x1 x2 x3 x4 D) else (ga_bind (g_X50_goes x1 x4 x5 x2 D) (fun r44 D44 => if r44 = 0 then (ga_let (aw_or x2 0) (fun v64 => ga_let (aw_w32 (x5 + 1)) (fun v65 => g_X50_stuck_l27 n x1 v64 x3 x4 v65 D44 k71))) else (ga_let (aw_or x2 (aw_shl 1 (aw_w32 ((aw_w32 (3 * x4)) + x5)))) (fun v64 => ga_let (aw_w32 (x5 + 1)) (fun v65 => g_X50_stuck_l27 n x1 v64 x3 x4 v65 D44 k71))))))
    refine pr_ite (fun c33 => ?_) (fun c33 => ?_)
    exact hk71 _ _ _ _ _ 
    refine pr_bind (g_X50_goes_pr) (fun r44 D44 => ?_)
    refine pr_ite (fun c47 => ?_) (fun c47 => ?_)
    refine pr_let (fun v64 => ?_)
    refine pr_let (fun v65 => ?_)
    exact ih _ _ _ _ _ _ 
    refine pr_let (fun v64 => ?_)
    refine pr_let (fun v65 => ?_)
    exact ih _ _ _ _ _ _ 
theorem g_X50_stuck_l13_pr  {k77 : Int → Int → Int → ga_D → ga_S} (hk77 : ∀ (x1 x2 x3 : Int) (D : ga_D), ga_pr D (k77 x1 x2 x3 D)) : ∀ (n : Nat) (x1 x2 x3 x4 : Int) (D : ga_D), ga_pr D (g_X50_stuck_l13 n x1 x2 x3 x4 D k77) := by
  intro n
  induction n with
  | zero => intro x1 x2 x3 x4 D; exact pr_none
  | succ n ih =>
    intro x1 x2 x3 x4 D
    show ga_pr D (ga_ck (0 ≤ x1 ∧ x1 < 2) (if D 5164 x1 ≤ x4 then (k77 x1 x2 x3 D) else (g_X50_stuck_l27 aw_fu x1 x2 x3 x4 0 D (fun x1 x2 x3 x4 D71 => ga_let (aw_w32 (x4 + 1)) (fun v71 => g_X50_stuck_l13 n x1 x2 x3 v71 D71 k77)))))
    refine pr_ck (fun ha20 => ?_)
    refine pr_ite (fun c21 => ?_) (fun c21 => ?_)
    exact hk77 _ _ _ _ 
    refine g_X50_stuck_l27_pr (fun x1 x2 x3 x4 D71 => ?_) _ _ _ _ _ _ _ 
    refine pr_let (fun v71 => ?_)
    exact ih _ _ _ _ _ 
theorem g_X50_stuck_l4_pr  {k83 : Int → Int → ga_D → ga_S} (hk83 : ∀ (x1 x2 : Int) (D : ga_D), ga_pr D (k83 x1 x2 D)) : ∀ (n : Nat) (x1 x2 x3 : Int) (D : ga_D), ga_pr D (g_X50_stuck_l4 n x1 x2 x3 D k83) := by
  intro n
  induction n with
  | zero => intro x1 x2 x3 D; exact pr_none
  | succ n ih =>
    intro x1 x2 x3 D
    show ga_pr D (if 9 ≤ x3 then (k83 x1 x2 D) else (g_X50_stuck_l13 aw_fu x1 x2 x3 0 D (fun x1 x2 x3 D77 => ga_let (aw_w32 (x3 + 1)) (fun v77 => g_X50_stuck_l4 n x1 x2 v77 D77 k83))))
    refine pr_ite (fun c7 => ?_) (fun c7 => ?_)
    exact hk83 _ _ _ 
    refine g_X50_stuck_l13_pr (fun x1 x2 x3 D77 => ?_) _ _ _ _ _ _ 
    refine pr_let (fun v77 => ?_)
    exact ih _ _ _ _ 
theorem g_X50_stuck_l98_pr  {k120 : Int → ga_D → ga_S} {k128 : Int → Int → Int → ga_D → ga_S} (hk120 : ∀ (x3 : Int) (D : ga_D), ga_pr D (k120 x3 D)) (hk128 : ∀ (x1 x2 x3 : Int) (D : ga_D), ga_pr D (k128 x1 x2 x3 D)) : ∀ (n : Nat) (x1 x2 x3 x4 : Int) (D : ga_D), ga_pr D (g_X50_stuck_l98 n x1 x2 x3 x4 D k120 k128) := by
  intro n
  induction n with
  | zero => intro x1 x2 x3 x4 D; exact pr_none
  | succ n ih =>
    intro x1 x2 x3 x4 D
    show ga_pr D (if D 5163 0 ≤ x4 then (k128 x1 x2 x3 D) else (if aw_and (aw_shr x2 (aw_w32 ((aw_w32 (3 * x3)) + x4))) 1 ≠ 0 then (ga_let (aw_w32 (x4 + 1)) (fun v122 => g_X50_stuck_l98 n x1 x2 x3 v122 D k120 k128)) else (k120 x3 D)))
    refine pr_ite (fun c104 => ?_) (fun c104 => ?_)
    exact hk128 _ _ _ _ 
    refine pr_ite (fun c117 => ?_) (fun c117 => ?_)
    refine pr_let (fun v122 => ?_)
    exact ih _ _ _ _ _ 
    exact hk120 _ _ 
theorem g_X50_stuck_l85_pr  {k120 : Int → ga_D → ga_S} {k134 : ga_D → ga_S} (hk120 : ∀ (x3 : Int) (D : ga_D), ga_pr D (k120 x3 D)) (hk134 : ∀ (D : ga_D), ga_pr D (k134 D)) : ∀ (n : Nat) (x1 x2 x3 : Int) (D : ga_D), ga_pr D (g_X50_stuck_l85 n x1 x2 x3 D k120 k134) := by
  intro n
  induction n with
  | zero => intro x1 x2 x3 D; exact pr_none
  | succ n ih =>
    intro x1 x2 x3 D
    show ga_pr D (ga_ck (0 ≤ x1 ∧ x1 < 2) (if D 5164 x1 ≤ x3 then (k134 D) else (g_X50_stuck_l98 aw_fu x1 x2 x3 0 D (fun x3 D120 => k120 x3 D120) (fun x1 x2 x3 D128 => ga_let (aw_w32 (x3 + 1)) (fun v128 => g_X50_stuck_l85 n x1 x2 v128 D128 k120 k134)))))
    refine pr_ck (fun ha91 => ?_)
    refine pr_ite (fun c92 => ?_) (fun c92 => ?_)
    exact hk134 _ 
    refine g_X50_stuck_l98_pr (fun x3 D120 => ?_) (fun x1 x2 x3 D128 => ?_) _ _ _ _ _ _ 
    exact hk120 _ _ 
    refine pr_let (fun v128 => ?_)
    exact ih _ _ _ _ 
theorem g_X50_stuck_pr {x1 : Int} {D : ga_D} : ga_pr D (g_X50_stuck x1 D) := by
  unfold g_X50_stuck
  refine g_X50_stuck_l4_pr (fun x1 x2 D83 => ?_) _ _ _ _ _ 
  refine g_X50_stuck_l85_pr (fun x3 D120 => ?_) (fun D134 => ?_) _ _ _ _ _ 
  exact pr_some
  exact pr_some
theorem g_X50_freeze_l36_pr  {k78 : ga_D → ga_S} (hk78 : ∀ (D : ga_D), ga_pr D (k78 D)) : ∀ (n : Nat) (x1 : Int) (D : ga_D), ga_pr D (g_X50_freeze_l36 n x1 D k78) := by
  intro n
  induction n with
  | zero => intro x1 D; exact pr_none
  | succ n ih =>
    intro x1 D
    show ga_pr D (if 18 ≤ x1 then (k78 D) else (ga_ck (0 ≤ x1 ∧ x1 < 36) (ga_ck (0 ≤ aw_w32 (18 + x1) ∧ aw_w32 (18 + x1) < 36) (ga_let (ga_set D 5168 (aw_w32 (18 + x1)) (D 5168 x1)) (fun D56 => ga_ck (0 ≤ x1 ∧ x1 < 36) (ga_ck (0 ≤ aw_w32 (18 + x1) ∧ aw_w32 (18 + x1) < 36) (ga_let (ga_set D56 5169 (aw_w32 (18 + x1)) (D56 5169 x1)) (fun D71 => ga_let (aw_w32 (x1 + 1)) (fun v72 => g_X50_freeze_l36 n v72 D71 k78)))))))))
    refine pr_ite (fun c39 => ?_) (fun c39 => ?_)
    exact hk78 _ 
    refine pr_ck (fun ha55 => ?_)
    refine pr_ck (fun ha56 => ?_)
    refine pr_upd (ga_Pn K_5168 rfl) (fun D56 => ?_)
    refine pr_ck (fun ha70 => ?_)
    refine pr_ck (fun ha71 => ?_)
    refine pr_upd (ga_Pn K_5169 rfl) (fun D71 => ?_)
    refine pr_let (fun v72 => ?_)
    exact ih _ _ 
theorem g_X50_freeze_l80_pr  {k167 : ga_D → ga_S} (hk167 : ∀ (D : ga_D), ga_pr D (k167 D)) : ∀ (n : Nat) (x1 : Int) (D : ga_D), ga_pr D (g_X50_freeze_l80 n x1 D k167) := by
  intro n
  induction n with
  | zero => intro x1 D; exact pr_none
  | succ n ih =>
    intro x1 D
    show ga_pr D (if 9 ≤ x1 then (k167 D) else (ga_ck (0 ≤ x1 ∧ x1 < 18) (ga_ck (0 ≤ aw_w32 (9 + x1) ∧ aw_w32 (9 + x1) < 18) (ga_let (ga_set D 5167 (aw_w32 (9 + x1)) (D 5167 x1)) (fun D100 => ga_ck (0 ≤ x1 ∧ x1 < 18) (ga_ck (0 ≤ aw_w32 (9 + x1) ∧ aw_w32 (9 + x1) < 18) (ga_let (ga_set D100 5170 (aw_w32 (9 + x1)) (D100 5170 x1)) (fun D115 => ga_ck (0 ≤ x1 ∧ x1 < 18) (ga_ck (0 ≤ aw_w32 (9 + x1) ∧ aw_w32 (9 + x1) < 18) (ga_let (ga_set D115 5171 (aw_w32 (9 + x1)) (D115 5171 x1)) (fun D130 => ga_ck (0 ≤ x1 ∧ x1 < 18) (ga_ck (0 ≤ aw_w32 (9 + x1) ∧ aw_w32 (9 + x1) < 18) (ga_let (ga_set D130 5172 (aw_w32 (9 + x1)) (D130 5172 x1)) (fun D145 => ga_ck (0 ≤ x1 ∧ x1 < 18) (ga_ck (0 ≤ aw_w32 (9 + x1) ∧ aw_w32 (9 + x1) < 18) (ga_let (ga_set D145 5173 (aw_w32 (9 + x1)) (D145 5173 x1)) (fun D160 => ga_let (aw_w32 (x1 + 1)) (fun v161 => g_X50_freeze_l80 n v161 D160 k167))))))))))))))))))
    refine pr_ite (fun c83 => ?_) (fun c83 => ?_)
    exact hk167 _ 
    refine pr_ck (fun ha99 => ?_)
    refine pr_ck (fun ha100 => ?_)
    refine pr_upd (ga_Pn K_5167 rfl) (fun D100 => ?_)
    refine pr_ck (fun ha114 => ?_)
    refine pr_ck (fun ha115 => ?_)
    refine pr_upd (ga_Pn K_5170 rfl) (fun D115 => ?_)
    refine pr_ck (fun ha129 => ?_)
    refine pr_ck (fun ha130 => ?_)
    refine pr_upd (ga_Pn K_5171 rfl) (fun D130 => ?_)
    refine pr_ck (fun ha144 => ?_)
    refine pr_ck (fun ha145 => ?_)
    refine pr_upd (ga_Pn K_5172 rfl) (fun D145 => ?_)
    refine pr_ck (fun ha159 => ?_)
    refine pr_ck (fun ha160 => ?_)
    refine pr_upd (ga_Pn K_5173 rfl) (fun D160 => ?_)
    refine pr_let (fun v161 => ?_)
    exact ih _ _ 
theorem g_X50_freeze_l169_pr  {k194 : ga_D → ga_S} (hk194 : ∀ (D : ga_D), ga_pr D (k194 D)) : ∀ (n : Nat) (x1 : Int) (D : ga_D), ga_pr D (g_X50_freeze_l169 n x1 D k194) := by
  intro n
  induction n with
  | zero => intro x1 D; exact pr_none
  | succ n ih =>
    intro x1 D
    show ga_pr D (if 3 ≤ x1 then (k194 D) else (ga_ck (0 ≤ x1 ∧ x1 < 6) (ga_ck (0 ≤ aw_w32 (3 + x1) ∧ aw_w32 (3 + x1) < 6) (ga_let (ga_set D 5166 (aw_w32 (3 + x1)) (D 5166 x1)) (fun D187 => ga_let (aw_w32 (x1 + 1)) (fun v188 => g_X50_freeze_l169 n v188 D187 k194))))))
    refine pr_ite (fun c171 => ?_) (fun c171 => ?_)
    exact hk194 _ 
    refine pr_ck (fun ha186 => ?_)
    refine pr_ck (fun ha187 => ?_)
    refine pr_upd (ga_Pn K_5166 rfl) (fun D187 => ?_)
    refine pr_let (fun v188 => ?_)
    exact ih _ _ 
theorem g_X50_freeze_pr {D : ga_D} : ga_pr D (g_X50_freeze D) := by
  unfold g_X50_freeze
  refine pr_ck (fun ha6 => ?_)
  refine pr_ck (fun ha9 => ?_)
  refine pr_upd (ga_Pn K_5190 rfl) (fun D9 => ?_)
  refine pr_ck (fun ha20 => ?_)
  refine pr_ck (fun ha21 => ?_)
  refine pr_upd (ga_Pn K_5164 rfl) (fun D21 => ?_)
  refine pr_ck (fun ha32 => ?_)
  refine pr_ck (fun ha33 => ?_)
  refine pr_upd (ga_Pn K_5165 rfl) (fun D33 => ?_)
  refine g_X50_freeze_l36_pr (fun D78 => ?_) _ _ _ 
  refine g_X50_freeze_l80_pr (fun D167 => ?_) _ _ _ 
  refine g_X50_freeze_l169_pr (fun D194 => ?_) _ _ _ 
  exact pr_some
theorem g_X50_solve_j43_pr  (x1 : Int) (D : ga_D) : ga_pr D (g_X50_solve_j43 x1 D) := by
  unfold g_X50_solve_j43
  refine pr_ite (fun c44 => ?_) (fun c44 => ?_)
  exact pr_some
  exact pr_some
theorem g_X50_solve_j21_pr  (x1 s0 : Int) (D : ga_D) : ga_pr D (g_X50_solve_j21 x1 s0 D) := by
  unfold g_X50_solve_j21
  refine pr_ck (fun hp21 => ?_)
  refine pr_upd (ga_Pn K_5163 rfl) (fun D21 => ?_)
  refine pr_ck (fun hp29 => ?_)
  refine pr_upd (ga_Pn K_5163 rfl) (fun D29 => ?_)
  refine pr_ite (fun c36 => ?_) (fun c36 => ?_)
  refine g_X50_solve_j43_pr _ _ 
  refine pr_bind (g_X50_freeze_pr) (fun r40 D40 => ?_)
  refine g_X50_solve_j43_pr _ _ 
theorem g_X50_solve_pr {D : ga_D} : ga_pr D (g_X50_solve D) := by
  unfold g_X50_solve
  refine pr_bind (g_X50_layOut_pr) (fun r2 D2 => ?_)
  refine pr_bind (g_X50_stuck_pr) (fun r7 D7 => ?_)
  refine pr_ite (fun c13 => ?_) (fun c13 => ?_)
  refine g_X50_solve_j21_pr _ _ _ 
  refine g_X50_solve_j21_pr _ _ _ 
theorem g_X50_multiply_l24_pr  {k70 : Int → Int → Int → Int → ga_D → ga_S} (hk70 : ∀ (x1 x3 x4 x5 : Int) (D : ga_D), ga_pr D (k70 x1 x3 x4 x5 D)) : ∀ (n : Nat) (x1 x3 x4 x5 x7 : Int) (D : ga_D), ga_pr D (g_X50_multiply_l24 n x1 x3 x4 x5 x7 D k70) := by
  intro n
  induction n with
  | zero => intro x1 x3 x4 x5 x7 D; exact pr_none
  | succ n ih =>
    intro x1 x3 x4 x5 x7 D
    show ga_pr D (if 9 ≤ x7 then (k70 x1 x3 x4 x5 D) else (ga_ck (0 ≤ aw_w32 ((aw_w32 (9 * x3)) + x7) ∧ aw_w32 ((aw_w32 (9 * x3)) + x7) < 81) (ga_ck (0 ≤ aw_w32 ((aw_w32 (9 * x7)) + x4) ∧ aw_w32 ((aw_w32 (9 * x7)) + x4) < 81) (ga_ck (x1 ≠ 0) (ga_let (Int.tmod (aw_w64 (x5 + (aw_w64 ((D 5181 (aw_w32 ((aw_w32 (9 * x3)) + x7))) * (D 5182 (aw_w32 ((aw_w32 (9 * x7)) + x4))))))) x1) (fun v62 => ga_let (aw_w32 (x7 + 1)) (fun v64 => g_X50_multiply_l24 n x1 x3 x4 v62 v64 D k70)))))))
    refine pr_ite (fun c28 => ?_) (fun c28 => ?_)
    exact hk70 _ _ _ _ _ 
    refine pr_ck (fun ha44 => ?_)
    refine pr_ck (fun ha57 => ?_)
    refine pr_ck (fun hz61 => ?_)
    refine pr_let (fun v62 => ?_)
    refine pr_let (fun v64 => ?_)
    exact ih _ _ _ _ _ _ 
theorem g_X50_multiply_l11_pr  {k90 : Int → Int → ga_D → ga_S} (hk90 : ∀ (x1 x3 : Int) (D : ga_D), ga_pr D (k90 x1 x3 D)) : ∀ (n : Nat) (x1 x3 x4 : Int) (D : ga_D), ga_pr D (g_X50_multiply_l11 n x1 x3 x4 D k90) := by
  intro n
  induction n with
  | zero => intro x1 x3 x4 D; exact pr_none
  | succ n ih =>
    intro x1 x3 x4 D
    show ga_pr D (if 9 ≤ x4 then (k90 x1 x3 D) else (g_X50_multiply_l24 aw_fu x1 x3 x4 0 0 D (fun x1 x3 x4 x5 D70 => ga_ck (0 ≤ aw_w32 ((aw_w32 (9 * x3)) + x4) ∧ aw_w32 ((aw_w32 (9 * x3)) + x4) < 81) (ga_let (ga_set D70 5183 (aw_w32 ((aw_w32 (9 * x3)) + x4)) x5) (fun D83 => ga_let (aw_w32 (x4 + 1)) (fun v84 => g_X50_multiply_l11 n x1 x3 v84 D83 k90))))))
    refine pr_ite (fun c15 => ?_) (fun c15 => ?_)
    exact hk90 _ _ _ 
    refine g_X50_multiply_l24_pr (fun x1 x3 x4 x5 D70 => ?_) _ _ _ _ _ _ _ 
    refine pr_ck (fun ha83 => ?_)
    refine pr_upd (ga_Pn K_5183 rfl) (fun D83 => ?_)
    refine pr_let (fun v84 => ?_)
    exact ih _ _ _ _ 
theorem g_X50_multiply_l2_pr  {k96 : ga_D → ga_S} (hk96 : ∀ (D : ga_D), ga_pr D (k96 D)) : ∀ (n : Nat) (x1 x3 : Int) (D : ga_D), ga_pr D (g_X50_multiply_l2 n x1 x3 D k96) := by
  intro n
  induction n with
  | zero => intro x1 x3 D; exact pr_none
  | succ n ih =>
    intro x1 x3 D
    show ga_pr D (if 9 ≤ x3 then (k96 D) else (g_X50_multiply_l11 aw_fu x1 x3 0 D (fun x1 x3 D90 => ga_let (aw_w32 (x3 + 1)) (fun v90 => g_X50_multiply_l2 n x1 v90 D90 k96))))
    refine pr_ite (fun c5 => ?_) (fun c5 => ?_)
    exact hk96 _ 
    refine g_X50_multiply_l11_pr (fun x1 x3 D90 => ?_) _ _ _ _ _ 
    refine pr_let (fun v90 => ?_)
    exact ih _ _ _ 
theorem g_X50_multiply_pr {x1 : Int} {D : ga_D} : ga_pr D (g_X50_multiply x1 D) := by
  unfold g_X50_multiply
  refine g_X50_multiply_l2_pr (fun D96 => ?_) _ _ _ _ 
  exact pr_some
theorem g_X50_raise_j40_pr  {k9 : Int → Int → Int → Int → ga_D → ga_S} (hk9 : ∀ (x4 x6 x8 x10 : Int) (D : ga_D), ga_pr D (k9 x4 x6 x8 x10 D)) (x4 x8 x10 s0 : Int) (D : ga_D) : ga_pr D (g_X50_raise_j40 x4 x8 x10 s0 D k9) := by
  unfold g_X50_raise_j40
  refine pr_ck (fun hz49 => ?_)
  refine pr_let (fun v50 => ?_)
  refine pr_let (fun v58 => ?_)
  exact hk9 _ _ _ _ _ 
theorem g_X50_raise_l9_pr  {k63 : Int → ga_D → ga_S} (hk63 : ∀ (x6 : Int) (D : ga_D), ga_pr D (k63 x6 D)) : ∀ (n : Nat) (x4 x6 x8 x10 : Int) (D : ga_D), ga_pr D (g_X50_raise_l9 n x4 x6 x8 x10 D k63) := by
  intro n
  induction n with
  | zero => intro x4 x6 x8 x10 D; exact pr_none
  | succ n ih =>
    intro x4 x6 x8 x10 D
    show ga_pr D (if x10 ≤ 0 then (k63 x6 D) else (if Int.tmod x10 2 ≠ 1 then (g_X50_raise_j40 x4 x8 x10 x6 D (fun x4 x6 x8 x10 D9 => g_X50_raise_l9 n x4 x6 x8 x10 D9 k63)) else (ga_ck (x4 ≠ 0) (g_X50_raise_j40 x4 x8 x10 (Int.tmod (aw_w64 (x6 * x8)) x4) D (fun x4 x6 x8 x10 D9 => g_X50_raise_l9 n x4 x6 x8 x10 D9 k63)))))
    refine pr_ite (fun c13 => ?_) (fun c13 => ?_)
    exact hk63 _ _ 
    refine pr_ite (fun c24 => ?_) (fun c24 => ?_)
    refine g_X50_raise_j40_pr (fun x4 x6 x8 x10 D9 => ?_) _ _ _ _ _ 
    exact ih _ _ _ _ _ 
    refine pr_ck (fun hz34 => ?_)
    refine g_X50_raise_j40_pr (fun x4 x6 x8 x10 D9 => ?_) _ _ _ _ _ 
    exact ih _ _ _ _ _ 
theorem g_X50_raise_pr {x0 x2 x4 : Int} {D : ga_D} : ga_pr D (g_X50_raise x0 x2 x4 D) := by
  unfold g_X50_raise
  refine g_X50_raise_l9_pr (fun x6 D63 => ?_) _ _ _ _ _ _ 
  exact pr_some
theorem g_X50_inverse_pr {x0 x2 : Int} {D : ga_D} : ga_pr D (g_X50_inverse x0 x2 D) := by
  unfold g_X50_inverse
  refine pr_bind (g_X50_raise_pr) (fun r7 D7 => ?_)
  exact pr_some
theorem g_X50_turnBy_j38_pr  {k13 : Int → Int → Int → Int → ga_D → ga_S} (hk13 : ∀ (x1 x2 x4 x5 : Int) (D : ga_D), ga_pr D (k13 x1 x2 x4 x5 D)) (x1 x2 x4 x5 s0 : Int) (D : ga_D) : ga_pr D (g_X50_turnBy_j38 x1 x2 x4 x5 s0 D k13) := by
  unfold g_X50_turnBy_j38
  refine pr_ck (fun ha50 => ?_)
  refine pr_let (fun v52 => ?_)
  refine pr_ck (fun hz69 => ?_)
  refine pr_ck (fun hz73 => ?_)
  refine pr_ck (fun ha74 => ?_)
  refine pr_upd (ga_Pn K_5181 rfl) (fun D74 => ?_)
  refine pr_ck (fun ha88 => ?_)
  refine pr_upd (ga_Pn K_5182 rfl) (fun D88 => ?_)
  refine pr_let (fun v89 => ?_)
  exact hk13 _ _ _ _ _ 
theorem g_X50_turnBy_l13_pr  {k95 : Int → Int → Int → ga_D → ga_S} (hk95 : ∀ (x1 x2 x4 : Int) (D : ga_D), ga_pr D (k95 x1 x2 x4 D)) : ∀ (n : Nat) (x1 x2 x4 x5 : Int) (D : ga_D), ga_pr D (g_X50_turnBy_l13 n x1 x2 x4 x5 D k95) := by
  intro n
  induction n with
  | zero => intro x1 x2 x4 x5 D; exact pr_none
  | succ n ih =>
    intro x1 x2 x4 x5 D
    show ga_pr D (if 9 ≤ x5 then (k95 x1 x2 x4 D) else (if x4 ≠ x5 then (g_X50_turnBy_j38 x1 x2 x4 x5 0 D (fun x1 x2 x4 x5 D13 => g_X50_turnBy_l13 n x1 x2 x4 x5 D13 k95)) else (ga_ck (0 ≤ x5 ∧ x5 < 9) (g_X50_turnBy_j38 x1 x2 x4 x5 (D 5178 x5) D (fun x1 x2 x4 x5 D13 => g_X50_turnBy_l13 n x1 x2 x4 x5 D13 k95)))))
    refine pr_ite (fun c17 => ?_) (fun c17 => ?_)
    exact hk95 _ _ _ _ 
    refine pr_ite (fun c24 => ?_) (fun c24 => ?_)
    refine g_X50_turnBy_j38_pr (fun x1 x2 x4 x5 D13 => ?_) _ _ _ _ _ _ 
    exact ih _ _ _ _ _ 
    refine pr_ck (fun ha33 => ?_)
    refine g_X50_turnBy_j38_pr (fun x1 x2 x4 x5 D13 => ?_) _ _ _ _ _ _ 
    exact ih _ _ _ _ _ 
theorem g_X50_turnBy_l3_pr  {k101 : Int → Int → ga_D → ga_S} (hk101 : ∀ (x1 x2 : Int) (D : ga_D), ga_pr D (k101 x1 x2 D)) : ∀ (n : Nat) (x1 x2 x4 : Int) (D : ga_D), ga_pr D (g_X50_turnBy_l3 n x1 x2 x4 D k101) := by
  intro n
  induction n with
  | zero => intro x1 x2 x4 D; exact pr_none
  | succ n ih =>
    intro x1 x2 x4 D
    show ga_pr D (if 9 ≤ x4 then (k101 x1 x2 D) else (g_X50_turnBy_l13 aw_fu x1 x2 x4 0 D (fun x1 x2 x4 D95 => ga_let (aw_w32 (x4 + 1)) (fun v95 => g_X50_turnBy_l3 n x1 x2 v95 D95 k101))))
    refine pr_ite (fun c7 => ?_) (fun c7 => ?_)
    exact hk101 _ _ _ 
    refine g_X50_turnBy_l13_pr (fun x1 x2 x4 D95 => ?_) _ _ _ _ _ _ 
    refine pr_let (fun v95 => ?_)
    exact ih _ _ _ _ 
theorem g_X50_turnBy_l122_pr  {k160 : Int → Int → Int → ga_D → ga_S} (hk160 : ∀ (x1 x2 x6 : Int) (D : ga_D), ga_pr D (k160 x1 x2 x6 D)) : ∀ (n : Nat) (x1 x2 x4 x6 x7 : Int) (D : ga_D), ga_pr D (g_X50_turnBy_l122 n x1 x2 x4 x6 x7 D k160) := by
  intro n
  induction n with
  | zero => intro x1 x2 x4 x6 x7 D; exact pr_none
  | succ n ih =>
    intro x1 x2 x4 x6 x7 D
    show ga_pr D (if 9 ≤ x7 then (k160 x1 x2 x6 D) else (ga_ck (0 ≤ aw_w32 (10 * x7) ∧ aw_w32 (10 * x7) < 81) (ga_ck (x2 ≠ 0) (ga_ck (0 ≤ aw_w32 (10 * x7) ∧ aw_w32 (10 * x7) < 81) (ga_let (ga_set D 5183 (aw_w32 (10 * x7)) (Int.tmod (aw_w64 ((D 5183 (aw_w32 (10 * x7))) + x4)) x2)) (fun D153 => ga_let (aw_w32 (x7 + 1)) (fun v154 => g_X50_turnBy_l122 n x1 x2 x4 x6 v154 D153 k160)))))))
    refine pr_ite (fun c126 => ?_) (fun c126 => ?_)
    exact hk160 _ _ _ _ 
    refine pr_ck (fun ha147 => ?_)
    refine pr_ck (fun hz152 => ?_)
    refine pr_ck (fun ha153 => ?_)
    refine pr_upd (ga_Pn K_5183 rfl) (fun D153 => ?_)
    refine pr_let (fun v154 => ?_)
    exact ih _ _ _ _ _ _ 
theorem g_X50_turnBy_l163_pr  {k190 : Int → Int → Int → ga_D → ga_S} (hk190 : ∀ (x1 x2 x6 : Int) (D : ga_D), ga_pr D (k190 x1 x2 x6 D)) : ∀ (n : Nat) (x1 x2 x6 x7 : Int) (D : ga_D), ga_pr D (g_X50_turnBy_l163 n x1 x2 x6 x7 D k190) := by
  intro n
  induction n with
  | zero => intro x1 x2 x6 x7 D; exact pr_none
  | succ n ih =>
    intro x1 x2 x6 x7 D
    show ga_pr D (if 81 ≤ x7 then (k190 x1 x2 x6 D) else (ga_ck (0 ≤ x7 ∧ x7 < 81) (ga_ck (0 ≤ x7 ∧ x7 < 81) (ga_let (ga_set D 5182 x7 (D 5183 x7)) (fun D183 => ga_let (aw_w32 (x7 + 1)) (fun v184 => g_X50_turnBy_l163 n x1 x2 x6 v184 D183 k190))))))
    refine pr_ite (fun c167 => ?_) (fun c167 => ?_)
    exact hk190 _ _ _ _ 
    refine pr_ck (fun ha182 => ?_)
    refine pr_ck (fun ha183 => ?_)
    refine pr_upd (ga_Pn K_5182 rfl) (fun D183 => ?_)
    refine pr_let (fun v184 => ?_)
    exact ih _ _ _ _ _ 
theorem g_X50_turnBy_l201_pr  {k229 : Int → Int → Int → Int → ga_D → ga_S} (hk229 : ∀ (x1 x2 x6 x7 : Int) (D : ga_D), ga_pr D (k229 x1 x2 x6 x7 D)) : ∀ (n : Nat) (x1 x2 x6 x7 x9 : Int) (D : ga_D), ga_pr D (g_X50_turnBy_l201 n x1 x2 x6 x7 x9 D k229) := by
  intro n
  induction n with
  | zero => intro x1 x2 x6 x7 x9 D; exact pr_none
  | succ n ih =>
    intro x1 x2 x6 x7 x9 D
    show ga_pr D (if 9 ≤ x9 then (k229 x1 x2 x6 x7 D) else (ga_ck (0 ≤ aw_w32 (10 * x9) ∧ aw_w32 (10 * x9) < 81) (ga_let (aw_w64 (x7 + (D 5183 (aw_w32 (10 * x9))))) (fun v221 => ga_let (aw_w32 (x9 + 1)) (fun v223 => g_X50_turnBy_l201 n x1 x2 x6 v221 v223 D k229)))))
    refine pr_ite (fun c205 => ?_) (fun c205 => ?_)
    exact hk229 _ _ _ _ _ 
    refine pr_ck (fun ha219 => ?_)
    refine pr_let (fun v221 => ?_)
    refine pr_let (fun v223 => ?_)
    exact ih _ _ _ _ _ _ 
theorem g_X50_turnBy_l107_pr  {k255 : Int → Int → Int → ga_D → ga_S} (hk255 : ∀ (x1 x2 x4 : Int) (D : ga_D), ga_pr D (k255 x1 x2 x4 D)) : ∀ (n : Nat) (x1 x2 x4 x6 : Int) (D : ga_D), ga_pr D (g_X50_turnBy_l107 n x1 x2 x4 x6 D k255) := by
  intro n
  induction n with
  | zero => intro x1 x2 x4 x6 D; exact pr_none
  | succ n ih =>
    intro x1 x2 x4 x6 D
    show ga_pr D (if 9 < x6 then (k255 x1 x2 x4 D) else (ga_bind (g_X50_multiply x2 D) (fun r116 D116 => g_X50_turnBy_l122 aw_fu x1 x2 x4 x6 0 D116 (fun x1 x2 x6 D160 => g_X50_turnBy_l163 aw_fu x1 x2 x6 0 D160 (fun x1 x2 x6 D190 => ga_bind (g_X50_multiply x2 D190) (fun r192 D192 => g_X50_turnBy_l201 aw_fu x1 x2 x6 0 0 D192 (fun x1 x2 x6 x7 D229 => ga_ck (x2 ≠ 0) (ga_ck (x2 ≠ 0) (ga_bind (g_X50_inverse x6 x2 D229) (fun r241 D241 => ga_ck (x2 ≠ 0) (ga_let (Int.tmod (aw_w64 ((Int.tmod (aw_w64 (x2 - (Int.tmod x7 x2))) x2) * r241)) x2) (fun v247 => ga_let (aw_w32 (x6 + 1)) (fun v249 => g_X50_turnBy_l107 n x1 x2 v247 v249 D241 k255)))))))))))))
    refine pr_ite (fun c111 => ?_) (fun c111 => ?_)
    exact hk255 _ _ _ _ 
    refine pr_bind (g_X50_multiply_pr) (fun r116 D116 => ?_)
    refine g_X50_turnBy_l122_pr (fun x1 x2 x6 D160 => ?_) _ _ _ _ _ _ _ 
    refine g_X50_turnBy_l163_pr (fun x1 x2 x6 D190 => ?_) _ _ _ _ _ _ 
    refine pr_bind (g_X50_multiply_pr) (fun r192 D192 => ?_)
    refine g_X50_turnBy_l201_pr (fun x1 x2 x6 x7 D229 => ?_) _ _ _ _ _ _ _ 
    refine pr_ck (fun hz233 => ?_)
    refine pr_ck (fun hz236 => ?_)
    refine pr_bind (g_X50_inverse_pr) (fun r241 D241 => ?_)
    refine pr_ck (fun hz246 => ?_)
    refine pr_let (fun v247 => ?_)
    refine pr_let (fun v249 => ?_)
    exact ih _ _ _ _ _ 
theorem g_X50_turnBy_l270_pr  {k302 : ga_D → ga_S} (hk302 : ∀ (D : ga_D), ga_pr D (k302 D)) : ∀ (n : Nat) (x1 x6 : Int) (D : ga_D), ga_pr D (g_X50_turnBy_l270 n x1 x6 D k302) := by
  intro n
  induction n with
  | zero => intro x1 x6 D; exact pr_none
  | succ n ih =>
    intro x1 x6 D
    show ga_pr D (if 81 ≤ x6 then (k302 D) else (ga_ck (0 ≤ x6 ∧ x6 < 81) (ga_ck (0 ≤ aw_w32 ((aw_w32 (81 * x1)) + x6) ∧ aw_w32 ((aw_w32 (81 * x1)) + x6) < 648) (ga_let (ga_set D 5184 (aw_w32 ((aw_w32 (81 * x1)) + x6)) (D 5182 x6)) (fun D295 => ga_let (aw_w32 (x6 + 1)) (fun v296 => g_X50_turnBy_l270 n x1 v296 D295 k302))))))
    refine pr_ite (fun c274 => ?_) (fun c274 => ?_)
    exact hk302 _ 
    refine pr_ck (fun ha294 => ?_)
    refine pr_ck (fun ha295 => ?_)
    refine pr_upd (ga_Pn K_5184 rfl) (fun D295 => ?_)
    refine pr_let (fun v296 => ?_)
    exact ih _ _ _ 
theorem g_X50_turnBy_pr {x1 x2 : Int} {D : ga_D} : ga_pr D (g_X50_turnBy x1 x2 D) := by
  unfold g_X50_turnBy
  refine g_X50_turnBy_l3_pr (fun x1 x2 D101 => ?_) _ _ _ _ _ 
  refine g_X50_turnBy_l107_pr (fun x1 x2 x4 D255 => ?_) _ _ _ _ _ _ 
  refine pr_ck (fun hz265 => ?_)
  refine pr_ck (fun ha266 => ?_)
  refine pr_upd (ga_Pn K_5185 rfl) (fun D266 => ?_)
  refine g_X50_turnBy_l270_pr (fun D302 => ?_) _ _ _ _ 
  exact pr_some
theorem g_X50_turn_l2_pr  {k25 : ga_D → ga_S} (hk25 : ∀ (D : ga_D), ga_pr D (k25 D)) : ∀ (n : Nat) (x1 : Int) (D : ga_D), ga_pr D (g_X50_turn_l2 n x1 D k25) := by
  intro n
  induction n with
  | zero => intro x1 D; exact pr_none
  | succ n ih =>
    intro x1 D
    show ga_pr D (if 8 ≤ x1 then (k25 D) else (ga_ck (0 ≤ x1 ∧ x1 < 8) (ga_bind (g_X50_turnBy x1 (D 5177 x1) D) (fun r16 D16 => ga_let (aw_w32 (x1 + 1)) (fun v19 => g_X50_turn_l2 n v19 D16 k25)))))
    refine pr_ite (fun c5 => ?_) (fun c5 => ?_)
    exact hk25 _ 
    refine pr_ck (fun ha15 => ?_)
    refine pr_bind (g_X50_turnBy_pr) (fun r16 D16 => ?_)
    refine pr_let (fun v19 => ?_)
    exact ih _ _ 
theorem g_X50_turn_pr {D : ga_D} : ga_pr D (g_X50_turn D) := by
  unfold g_X50_turn
  refine g_X50_turn_l2_pr (fun D25 => ?_) _ _ _ 
  exact pr_some
theorem g_X50_clear_l2_pr  {k26 : ga_D → ga_S} (hk26 : ∀ (D : ga_D), ga_pr D (k26 D)) : ∀ (n : Nat) (x1 x2 : Int) (D : ga_D), ga_pr D (g_X50_clear_l2 n x1 x2 D k26) := by
  intro n
  induction n with
  | zero => intro x1 x2 D; exact pr_none
  | succ n ih =>
    intro x1 x2 D
    show ga_pr D (if 24 ≤ x2 then (k26 D) else (ga_ck (0 ≤ aw_w32 ((aw_w32 (24 * x1)) + x2) ∧ aw_w32 ((aw_w32 (24 * x1)) + x2) < 144) (ga_let (ga_set D 5186 (aw_w32 ((aw_w32 (24 * x1)) + x2)) 0) (fun D19 => ga_let (aw_w32 (x2 + 1)) (fun v20 => g_X50_clear_l2 n x1 v20 D19 k26)))))
    refine pr_ite (fun c5 => ?_) (fun c5 => ?_)
    exact hk26 _ 
    refine pr_ck (fun ha19 => ?_)
    refine pr_upd (ga_Pn K_5186 rfl) (fun D19 => ?_)
    refine pr_let (fun v20 => ?_)
    exact ih _ _ _ 
theorem g_X50_clear_pr {x1 : Int} {D : ga_D} : ga_pr D (g_X50_clear x1 D) := by
  unfold g_X50_clear
  refine g_X50_clear_l2_pr (fun D26 => ?_) _ _ _ _ 
  exact pr_some
theorem g_X50_grow_l7_pr  {k64 : ga_D → ga_S} (hk64 : ∀ (D : ga_D), ga_pr D (k64 D)) : ∀ (n : Nat) (x1 x2 x6 x8 : Int) (D : ga_D), ga_pr D (g_X50_grow_l7 n x1 x2 x6 x8 D k64) := by
  intro n
  induction n with
  | zero => intro x1 x2 x6 x8 D; exact pr_none
  | succ n ih =>
    intro x1 x2 x6 x8 D
    show ga_pr D (if 24 ≤ x8 then (k64 D) else (ga_ck (0 ≤ aw_w32 ((aw_w32 (24 * x1)) + x8) ∧ aw_w32 ((aw_w32 (24 * x1)) + x8) < 144) (ga_let (aw_w64 ((aw_w64 ((D 5186 (aw_w32 ((aw_w32 (24 * x1)) + x8))) * x2)) + x6)) (fun v31 => ga_ck (0 ≤ aw_w32 ((aw_w32 (24 * x1)) + x8) ∧ aw_w32 ((aw_w32 (24 * x1)) + x8) < 144) (ga_let (ga_set D 5186 (aw_w32 ((aw_w32 (24 * x1)) + x8)) (aw_land v31 268435455)) (fun D50 => ga_let (aw_lshr v31 28) (fun v56 => ga_let (aw_w32 (x8 + 1)) (fun v58 => g_X50_grow_l7 n x1 x2 v56 v58 D50 k64))))))))
    refine pr_ite (fun c11 => ?_) (fun c11 => ?_)
    exact hk64 _ 
    refine pr_ck (fun ha25 => ?_)
    refine pr_let (fun v31 => ?_)
    refine pr_ck (fun ha50 => ?_)
    refine pr_upd (ga_Pn K_5186 rfl) (fun D50 => ?_)
    refine pr_let (fun v56 => ?_)
    refine pr_let (fun v58 => ?_)
    exact ih _ _ _ _ _ 
theorem g_X50_grow_pr {x1 x2 x4 : Int} {D : ga_D} : ga_pr D (g_X50_grow x1 x2 x4 D) := by
  unfold g_X50_grow
  refine g_X50_grow_l7_pr (fun D64 => ?_) _ _ _ _ _ _ 
  exact pr_some
theorem g_X50_add_l6_pr  {k61 : ga_D → ga_S} (hk61 : ∀ (D : ga_D), ga_pr D (k61 D)) : ∀ (n : Nat) (x1 x4 x6 : Int) (D : ga_D), ga_pr D (g_X50_add_l6 n x1 x4 x6 D k61) := by
  intro n
  induction n with
  | zero => intro x1 x4 x6 D; exact pr_none
  | succ n ih =>
    intro x1 x4 x6 D
    show ga_pr D (if 24 ≤ x6 then (k61 D) else (ga_ck (0 ≤ aw_w32 ((aw_w32 (24 * x1)) + x6) ∧ aw_w32 ((aw_w32 (24 * x1)) + x6) < 144) (ga_let (aw_w64 ((D 5186 (aw_w32 ((aw_w32 (24 * x1)) + x6))) + x4)) (fun v28 => ga_ck (0 ≤ aw_w32 ((aw_w32 (24 * x1)) + x6) ∧ aw_w32 ((aw_w32 (24 * x1)) + x6) < 144) (ga_let (ga_set D 5186 (aw_w32 ((aw_w32 (24 * x1)) + x6)) (aw_land v28 268435455)) (fun D47 => ga_let (aw_lshr v28 28) (fun v53 => ga_let (aw_w32 (x6 + 1)) (fun v55 => g_X50_add_l6 n x1 v53 v55 D47 k61))))))))
    refine pr_ite (fun c10 => ?_) (fun c10 => ?_)
    exact hk61 _ 
    refine pr_ck (fun ha24 => ?_)
    refine pr_let (fun v28 => ?_)
    refine pr_ck (fun ha47 => ?_)
    refine pr_upd (ga_Pn K_5186 rfl) (fun D47 => ?_)
    refine pr_let (fun v53 => ?_)
    refine pr_let (fun v55 => ?_)
    exact ih _ _ _ _ 
theorem g_X50_add_pr {x1 x2 : Int} {D : ga_D} : ga_pr D (g_X50_add x1 x2 D) := by
  unfold g_X50_add
  refine g_X50_add_l6_pr (fun D61 => ?_) _ _ _ _ _ 
  exact pr_some
theorem g_X50_gather_l18_pr  {k76 : Int → Int → Int → ga_D → ga_S} (hk76 : ∀ (x1 x2 x3 : Int) (D : ga_D), ga_pr D (k76 x1 x2 x3 D)) : ∀ (n : Nat) (x1 x2 x3 x5 : Int) (D : ga_D), ga_pr D (g_X50_gather_l18 n x1 x2 x3 x5 D k76) := by
  intro n
  induction n with
  | zero => intro x1 x2 x3 x5 D; exact pr_none
  | succ n ih =>
    intro x1 x2 x3 x5 D
    show ga_pr D (if x2 ≤ x5 then (k76 x1 x2 x3 D) else (ga_ck (0 ≤ x2 ∧ x2 < 8) (ga_let (D 5177 x2) (fun v30 => ga_ck (0 ≤ x5 ∧ x5 < 8) (ga_ck (v30 ≠ 0) (ga_ck (v30 ≠ 0) (ga_ck (0 ≤ x5 ∧ x5 < 8) (ga_ck (v30 ≠ 0) (ga_bind (g_X50_inverse (Int.tmod (D 5177 x5) v30) v30 D) (fun r62 D62 => ga_ck (v30 ≠ 0) (ga_let (Int.tmod (aw_w64 ((Int.tmod (aw_w64 ((Int.tmod (aw_w64 (x3 - (D 5188 x5))) v30) + v30)) v30) * r62)) v30) (fun v69 => ga_let (aw_w32 (x5 + 1)) (fun v70 => g_X50_gather_l18 n x1 x2 v69 v70 D62 k76)))))))))))))
    refine pr_ite (fun c21 => ?_) (fun c21 => ?_)
    exact hk76 _ _ _ _ 
    refine pr_ck (fun ha29 => ?_)
    refine pr_let (fun v30 => ?_)
    refine pr_ck (fun ha39 => ?_)
    refine pr_ck (fun hz43 => ?_)
    refine pr_ck (fun hz49 => ?_)
    refine pr_ck (fun ha56 => ?_)
    refine pr_ck (fun hz59 => ?_)
    refine pr_bind (g_X50_inverse_pr) (fun r62 D62 => ?_)
    refine pr_ck (fun hz68 => ?_)
    refine pr_let (fun v69 => ?_)
    refine pr_let (fun v70 => ?_)
    exact ih _ _ _ _ _ 
theorem g_X50_gather_l2_pr  {k89 : Int → ga_D → ga_S} (hk89 : ∀ (x1 : Int) (D : ga_D), ga_pr D (k89 x1 D)) : ∀ (n : Nat) (x1 x2 : Int) (D : ga_D), ga_pr D (g_X50_gather_l2 n x1 x2 D k89) := by
  intro n
  induction n with
  | zero => intro x1 x2 D; exact pr_none
  | succ n ih =>
    intro x1 x2 D
    show ga_pr D (if 8 ≤ x2 then (k89 x1 D) else (ga_ck (0 ≤ x2 ∧ x2 < 8) (ga_let (D 5187 x2) (fun v14 => g_X50_gather_l18 aw_fu x1 x2 v14 0 D (fun x1 x2 x3 D76 => ga_ck (0 ≤ x2 ∧ x2 < 8) (ga_let (ga_set D76 5188 x2 x3) (fun D82 => ga_let (aw_w32 (x2 + 1)) (fun v83 => g_X50_gather_l2 n x1 v83 D82 k89))))))))
    refine pr_ite (fun c5 => ?_) (fun c5 => ?_)
    exact hk89 _ _ 
    refine pr_ck (fun ha13 => ?_)
    refine pr_let (fun v14 => ?_)
    refine g_X50_gather_l18_pr (fun x1 x2 x3 D76 => ?_) _ _ _ _ _ _ 
    refine pr_ck (fun ha82 => ?_)
    refine pr_upd (ga_Pn K_5188 rfl) (fun D82 => ?_)
    refine pr_let (fun v83 => ?_)
    exact ih _ _ _ 
theorem g_X50_gather_j119_pr  {k97 : Int → Int → ga_D → ga_S} (hk97 : ∀ (x1 x2 : Int) (D : ga_D), ga_pr D (k97 x1 x2 D)) (x1 x2 s0 s1 : Int) (D : ga_D) : ga_pr D (g_X50_gather_j119 x1 x2 s0 s1 D k97) := by
  unfold g_X50_gather_j119
  refine pr_bind (g_X50_grow_pr) (fun r120 D120 => ?_)
  refine pr_ck (fun ha130 => ?_)
  refine pr_bind (g_X50_add_pr) (fun r131 D131 => ?_)
  refine pr_let (fun v134 => ?_)
  exact hk97 _ _ _ 
theorem g_X50_gather_l97_pr  {k140 : ga_D → ga_S} (hk140 : ∀ (D : ga_D), ga_pr D (k140 D)) : ∀ (n : Nat) (x1 x2 : Int) (D : ga_D), ga_pr D (g_X50_gather_l97 n x1 x2 D k140) := by
  intro n
  induction n with
  | zero => intro x1 x2 D; exact pr_none
  | succ n ih =>
    intro x1 x2 D
    show ga_pr D (if x2 < 0 then (k140 D) else (if x2 ≠ 7 then (ga_ck (0 ≤ x2 ∧ x2 < 8) (g_X50_gather_j119 x1 x2 (D 5177 x2) x1 D (fun x1 x2 D97 => g_X50_gather_l97 n x1 x2 D97 k140))) else (g_X50_gather_j119 x1 x2 1 x1 D (fun x1 x2 D97 => g_X50_gather_l97 n x1 x2 D97 k140))))
    refine pr_ite (fun c98 => ?_) (fun c98 => ?_)
    exact hk140 _ 
    refine pr_ite (fun c106 => ?_) (fun c106 => ?_)
    refine pr_ck (fun ha118 => ?_)
    refine g_X50_gather_j119_pr (fun x1 x2 D97 => ?_) _ _ _ _ _ 
    exact ih _ _ _ 
    refine g_X50_gather_j119_pr (fun x1 x2 D97 => ?_) _ _ _ _ _ 
    exact ih _ _ _ 
theorem g_X50_gather_pr {x1 : Int} {D : ga_D} : ga_pr D (g_X50_gather x1 D) := by
  unfold g_X50_gather
  refine g_X50_gather_l2_pr (fun x1 D89 => ?_) _ _ _ _ 
  refine pr_bind (g_X50_clear_pr) (fun r91 D91 => ?_)
  refine g_X50_gather_l97_pr (fun D140 => ?_) _ _ _ _ 
  exact pr_some
theorem g_X50_gatherOver_l2_pr  {k26 : Int → ga_D → ga_S} (hk26 : ∀ (x1 : Int) (D : ga_D), ga_pr D (k26 x1 D)) : ∀ (n : Nat) (x1 x2 : Int) (D : ga_D), ga_pr D (g_X50_gatherOver_l2 n x1 x2 D k26) := by
  intro n
  induction n with
  | zero => intro x1 x2 D; exact pr_none
  | succ n ih =>
    intro x1 x2 D
    show ga_pr D (if 8 ≤ x2 then (k26 x1 D) else (ga_ck (0 ≤ x2 ∧ x2 < 8) (ga_ck (0 ≤ x2 ∧ x2 < 8) (ga_let (ga_set D 5187 x2 (D 5185 x2)) (fun D19 => ga_let (aw_w32 (x2 + 1)) (fun v20 => g_X50_gatherOver_l2 n x1 v20 D19 k26))))))
    refine pr_ite (fun c5 => ?_) (fun c5 => ?_)
    exact hk26 _ _ 
    refine pr_ck (fun ha18 => ?_)
    refine pr_ck (fun ha19 => ?_)
    refine pr_upd (ga_Pn K_5187 rfl) (fun D19 => ?_)
    refine pr_let (fun v20 => ?_)
    exact ih _ _ _ 
theorem g_X50_gatherOver_pr {x1 : Int} {D : ga_D} : ga_pr D (g_X50_gatherOver x1 D) := by
  unfold g_X50_gatherOver
  refine g_X50_gatherOver_l2_pr (fun x1 D26 => ?_) _ _ _ _ 
  refine pr_bind (g_X50_gather_pr) (fun r28 D28 => ?_)
  exact pr_some
theorem g_X50_clearWeights_l2_pr  {k21 : ga_D → ga_S} (hk21 : ∀ (D : ga_D), ga_pr D (k21 D)) : ∀ (n : Nat) (x1 : Int) (D : ga_D), ga_pr D (g_X50_clearWeights_l2 n x1 D k21) := by
  intro n
  induction n with
  | zero => intro x1 D; exact pr_none
  | succ n ih =>
    intro x1 D
    show ga_pr D (if 9 ≤ x1 then (k21 D) else (ga_ck (0 ≤ x1 ∧ x1 < 9) (ga_let (ga_set D 5189 x1 0) (fun D14 => ga_let (aw_w32 (x1 + 1)) (fun v15 => g_X50_clearWeights_l2 n v15 D14 k21)))))
    refine pr_ite (fun c5 => ?_) (fun c5 => ?_)
    exact hk21 _ 
    refine pr_ck (fun ha14 => ?_)
    refine pr_upd (ga_Pn K_5189 rfl) (fun D14 => ?_)
    refine pr_let (fun v15 => ?_)
    exact ih _ _ 
theorem g_X50_clearWeights_pr {D : ga_D} : ga_pr D (g_X50_clearWeights D) := by
  unfold g_X50_clearWeights
  refine g_X50_clearWeights_l2_pr (fun D21 => ?_) _ _ _ 
  exact pr_some
theorem g_X50_prepare_j45_pr  (D : ga_D) : ga_pr D (g_X50_prepare_j45 D) := by
  unfold g_X50_prepare_j45
  refine pr_bind (g_X50_gatherOver_pr) (fun r47 D47 => ?_)
  refine pr_bind (g_X50_clearWeights_pr) (fun r51 D51 => ?_)
  exact pr_some
theorem g_X50_prepare_j26_pr  (x1 : Int) (D : ga_D) : ga_pr D (g_X50_prepare_j26 x1 D) := by
  unfold g_X50_prepare_j26
  refine pr_bind (g_X50_turn_pr) (fun r27 D27 => ?_)
  refine pr_upd (ga_Pn K_5163 rfl) (fun D32 => ?_)
  refine pr_ck (fun ha41 => ?_)
  refine pr_upd (ga_Pn K_5163 rfl) (fun D42 => ?_)
  refine g_X50_prepare_j45_pr _ 
theorem g_X50_prepare_pr {x1 : Int} {D : ga_D} : ga_pr D (g_X50_prepare x1 D) := by
  unfold g_X50_prepare
  refine pr_bind (g_X50_layOut_pr) (fun r2 D2 => ?_)
  refine pr_ite (fun c10 => ?_) (fun c10 => ?_)
  refine g_X50_prepare_j26_pr _ _ 
  refine pr_ck (fun ha22 => ?_)
  refine pr_ite (fun c23 => ?_) (fun c23 => ?_)
  refine g_X50_prepare_j45_pr _ 
  refine g_X50_prepare_j26_pr _ _ 
theorem g_X50_weighPort_j101_pr  {k39 : Int → Int → Int → Int → Int → Int → Int → ga_D → ga_S} (hk39 : ∀ (x1 x2 x3 x4 x5 x6 x7 : Int) (D : ga_D), ga_pr D (k39 x1 x2 x3 x4 x5 x6 x7 D)) (x1 x2 x3 x4 x5 x6 x7 s0 : Int) (D : ga_D) : ga_pr D (g_X50_weighPort_j101 x1 x2 x3 x4 x5 x6 x7 s0 D k39) := by
  unfold g_X50_weighPort_j101
  refine pr_ck (fun ha110 => ?_)
  refine pr_ite (fun c113 => ?_) (fun c113 => ?_)
  refine pr_ck (fun ha139 => ?_)
  refine pr_upd (ga_Pn K_5189 rfl) (fun D139 => ?_)
  refine pr_let (fun v140 => ?_)
  exact hk39 _ _ _ _ _ _ _ _ 
  refine pr_ck (fun ha133 => ?_)
  refine pr_ck (fun ha139 => ?_)
  refine pr_upd (ga_Pn K_5189 rfl) (fun D139 => ?_)
  refine pr_let (fun v140 => ?_)
  exact hk39 _ _ _ _ _ _ _ _ 
theorem g_X50_weighPort_j100_pr  {k39 : Int → Int → Int → Int → Int → Int → Int → ga_D → ga_S} (hk39 : ∀ (x1 x2 x3 x4 x5 x6 x7 : Int) (D : ga_D), ga_pr D (k39 x1 x2 x3 x4 x5 x6 x7 D)) (x1 x2 x3 x4 x5 x6 x7 : Int) (D : ga_D) : ga_pr D (g_X50_weighPort_j100 x1 x2 x3 x4 x5 x6 x7 D k39) := by
  unfold g_X50_weighPort_j100
  refine g_X50_weighPort_j101_pr (fun x1 x2 x3 x4 x5 x6 x7 D39 => ?_) _ _ _ _ _ _ _ _ _ 
  exact hk39 _ _ _ _ _ _ _ _ 
theorem g_X50_weighPort_j96_pr  {k39 : Int → Int → Int → Int → Int → Int → Int → ga_D → ga_S} (hk39 : ∀ (x1 x2 x3 x4 x5 x6 x7 : Int) (D : ga_D), ga_pr D (k39 x1 x2 x3 x4 x5 x6 x7 D)) (x1 x2 x3 x4 x5 x6 x7 : Int) (D : ga_D) : ga_pr D (g_X50_weighPort_j96 x1 x2 x3 x4 x5 x6 x7 D k39) := by
  unfold g_X50_weighPort_j96
  refine g_X50_weighPort_j101_pr (fun x1 x2 x3 x4 x5 x6 x7 D39 => ?_) _ _ _ _ _ _ _ _ _ 
  exact hk39 _ _ _ _ _ _ _ _ 
theorem g_X50_weighPort_l39_pr  {k146 : Int → Int → Int → Int → Int → Int → ga_D → ga_S} (hk146 : ∀ (x1 x2 x3 x4 x5 x6 : Int) (D : ga_D), ga_pr D (k146 x1 x2 x3 x4 x5 x6 D)) : ∀ (n : Nat) (x1 x2 x3 x4 x5 x6 x7 : Int) (D : ga_D), ga_pr D (g_X50_weighPort_l39 n x1 x2 x3 x4 x5 x6 x7 D k146) := by
  intro n
  induction n with
  | zero => intro x1 x2 x3 x4 x5 x6 x7 D; exact pr_none
  | succ n ih =>
    intro x1 x2 x3 x4 x5 x6 x7 D
    show ga_pr D (if 3 ≤ x7 then (k146 x1 x2 x3 x4 x5 x6 D) else (ga_ck (0 ≤ aw_w32 ((aw_w32 (3 * x1)) + x5) ∧ aw_w32 ((aw_w32 (3 * x1)) + x5) < 6) (if D 5166 (aw_w32 ((aw_w32 (3 * x1)) + x5)) ≤ x6 then (g_X50_weighPort_j100 x1 x2 x3 x4 x5 x6 x7 D (fun x1 x2 x3 x4 x5 x6 x7 D39 => g_X50_weighPort_l39 n x1 x2 x3 x4 x5 x6 x7 D39 k146)) else (ga_ck (0 ≤ aw_w32 ((aw_w32 ((aw_w32 (9 * x1)) + (aw_w32 (3 * x5)))) + x6) ∧ aw_w32 ((aw_w32 ((aw_w32 (9 * x1)) + (aw_w32 (3 * x5)))) + x6) < 18) (if D 5167 (aw_w32 ((aw_w32 ((aw_w32 (9 * x1)) + (aw_w32 (3 * x5)))) + x6)) ≠ aw_w32 ((-2) - x2) then (g_X50_weighPort_j100 x1 x2 x3 x4 x5 x6 x7 D (fun x1 x2 x3 x4 x5 x6 x7 D39 => g_X50_weighPort_l39 n x1 x2 x3 x4 x5 x6 x7 D39 k146)) else (if x3 = (-1) then (g_X50_weighPort_j96 x1 x2 x3 x4 x5 x6 x7 D (fun x1 x2 x3 x4 x5 x6 x7 D39 => g_X50_weighPort_l39 n x1 x2 x3 x4 x5 x6 x7 D39 k146)) else (if x3 ≠ x7 then (g_X50_weighPort_j100 x1 x2 x3 x4 x5 x6 x7 D (fun x1 x2 x3 x4 x5 x6 x7 D39 => g_X50_weighPort_l39 n x1 x2 x3 x4 x5 x6 x7 D39 k146)) else (g_X50_weighPort_j96 x1 x2 x3 x4 x5 x6 x7 D (fun x1 x2 x3 x4 x5 x6 x7 D39 => g_X50_weighPort_l39 n x1 x2 x3 x4 x5 x6 x7 D39 k146)))))))))
    refine pr_ite (fun c42 => ?_) (fun c42 => ?_)
    exact hk146 _ _ _ _ _ _ _ 
    refine pr_ck (fun ha57 => ?_)
    refine pr_ite (fun c58 => ?_) (fun c58 => ?_)
    refine g_X50_weighPort_j100_pr (fun x1 x2 x3 x4 x5 x6 x7 D39 => ?_) _ _ _ _ _ _ _ _ 
    exact ih _ _ _ _ _ _ _ _ 
    refine pr_ck (fun ha77 => ?_)
    refine pr_ite (fun c82 => ?_) (fun c82 => ?_)
    refine g_X50_weighPort_j100_pr (fun x1 x2 x3 x4 x5 x6 x7 D39 => ?_) _ _ _ _ _ _ _ _ 
    exact ih _ _ _ _ _ _ _ _ 
    refine pr_ite (fun c87 => ?_) (fun c87 => ?_)
    refine g_X50_weighPort_j96_pr (fun x1 x2 x3 x4 x5 x6 x7 D39 => ?_) _ _ _ _ _ _ _ _ 
    exact ih _ _ _ _ _ _ _ _ 
    refine pr_ite (fun c93 => ?_) (fun c93 => ?_)
    refine g_X50_weighPort_j100_pr (fun x1 x2 x3 x4 x5 x6 x7 D39 => ?_) _ _ _ _ _ _ _ _ 
    exact ih _ _ _ _ _ _ _ _ 
    refine g_X50_weighPort_j96_pr (fun x1 x2 x3 x4 x5 x6 x7 D39 => ?_) _ _ _ _ _ _ _ _ 
    exact ih _ _ _ _ _ _ _ _ 
theorem g_X50_weighPort_l19_pr  {k152 : Int → Int → Int → Int → ga_D → ga_S} (hk152 : ∀ (x1 x2 x3 x4 : Int) (D : ga_D), ga_pr D (k152 x1 x2 x3 x4 D)) : ∀ (n : Nat) (x1 x2 x3 x4 x5 x6 : Int) (D : ga_D), ga_pr D (g_X50_weighPort_l19 n x1 x2 x3 x4 x5 x6 D k152) := by
  intro n
  induction n with
  | zero => intro x1 x2 x3 x4 x5 x6 D; exact pr_none
  | succ n ih =>
    intro x1 x2 x3 x4 x5 x6 D
    show ga_pr D (if 3 ≤ x6 then (k152 x1 x2 x3 x4 D) else (ga_ck (0 ≤ x1 ∧ x1 < 2) (if D 5164 x1 ≤ x5 then (k152 x1 x2 x3 x4 D) else (g_X50_weighPort_l39 aw_fu x1 x2 x3 x4 x5 x6 0 D (fun x1 x2 x3 x4 x5 x6 D146 => ga_let (aw_w32 (x6 + 1)) (fun v146 => g_X50_weighPort_l19 n x1 x2 x3 x4 x5 v146 D146 k152))))))
    refine pr_ite (fun c22 => ?_) (fun c22 => ?_)
    exact hk152 _ _ _ _ _ 
    refine pr_ck (fun ha32 => ?_)
    refine pr_ite (fun c33 => ?_) (fun c33 => ?_)
    exact hk152 _ _ _ _ _ 
    refine g_X50_weighPort_l39_pr (fun x1 x2 x3 x4 x5 x6 D146 => ?_) _ _ _ _ _ _ _ _ _ 
    refine pr_let (fun v146 => ?_)
    exact ih _ _ _ _ _ _ _ 
theorem g_X50_weighPort_l3_pr  {k158 : ga_D → ga_S} (hk158 : ∀ (D : ga_D), ga_pr D (k158 D)) : ∀ (n : Nat) (x1 x2 x3 x4 : Int) (D : ga_D), ga_pr D (g_X50_weighPort_l3 n x1 x2 x3 x4 D k158) := by
  intro n
  induction n with
  | zero => intro x1 x2 x3 x4 D; exact pr_none
  | succ n ih =>
    intro x1 x2 x3 x4 D
    show ga_pr D (if 9 ≤ x4 then (k158 D) else (ga_let (aw_w32 (Int.tdiv x4 3)) (fun v14 => g_X50_weighPort_l19 aw_fu x1 x2 x3 x4 v14 0 D (fun x1 x2 x3 x4 D152 => ga_let (aw_w32 (x4 + 1)) (fun v152 => g_X50_weighPort_l3 n x1 x2 x3 v152 D152 k158)))))
    refine pr_ite (fun c7 => ?_) (fun c7 => ?_)
    exact hk158 _ 
    refine pr_let (fun v14 => ?_)
    refine g_X50_weighPort_l19_pr (fun x1 x2 x3 x4 D152 => ?_) _ _ _ _ _ _ _ _ 
    refine pr_let (fun v152 => ?_)
    exact ih _ _ _ _ _ 
theorem g_X50_weighPort_pr {x1 x2 x3 : Int} {D : ga_D} : ga_pr D (g_X50_weighPort x1 x2 x3 D) := by
  unfold g_X50_weighPort
  refine g_X50_weighPort_l3_pr (fun D158 => ?_) _ _ _ _ _ _ 
  exact pr_some
theorem g_X50_gatherAmount_l35_pr  {k88 : Int → Int → Int → Int → Int → Int → Int → ga_D → ga_S} (hk88 : ∀ (x1 x2 x3 x4 x6 x8 x9 : Int) (D : ga_D), ga_pr D (k88 x1 x2 x3 x4 x6 x8 x9 D)) : ∀ (n : Nat) (x1 x2 x3 x4 x6 x8 x9 x11 : Int) (D : ga_D), ga_pr D (g_X50_gatherAmount_l35 n x1 x2 x3 x4 x6 x8 x9 x11 D k88) := by
  intro n
  induction n with
  | zero => intro x1 x2 x3 x4 x6 x8 x9 x11 D; exact pr_none
  | succ n ih =>
    intro x1 x2 x3 x4 x6 x8 x9 x11 D
    show ga_pr D (if 9 ≤ x11 then (k88 x1 x2 x3 x4 x6 x8 x9 D) else (ga_ck (0 ≤ aw_w32 ((aw_w32 ((aw_w32 (81 * x3)) + (aw_w32 (9 * x8)))) + x11) ∧ aw_w32 ((aw_w32 ((aw_w32 (81 * x3)) + (aw_w32 (9 * x8)))) + x11) < 648) (ga_ck (0 ≤ aw_w32 ((aw_w32 (9 * x1)) + x11) ∧ aw_w32 ((aw_w32 (9 * x1)) + x11) < 18) (ga_ck (x4 ≠ 0) (ga_let (Int.tmod (aw_w64 (x9 + (aw_w64 ((D 5184 (aw_w32 ((aw_w32 ((aw_w32 (81 * x3)) + (aw_w32 (9 * x8)))) + x11))) * (D 5173 (aw_w32 ((aw_w32 (9 * x1)) + x11))))))) x4) (fun v80 => ga_let (aw_w32 (x11 + 1)) (fun v82 => g_X50_gatherAmount_l35 n x1 x2 x3 x4 x6 x8 v80 v82 D k88)))))))
    refine pr_ite (fun c39 => ?_) (fun c39 => ?_)
    exact hk88 _ _ _ _ _ _ _ _ 
    refine pr_ck (fun ha61 => ?_)
    refine pr_ck (fun ha73 => ?_)
    refine pr_ck (fun hz79 => ?_)
    refine pr_let (fun v80 => ?_)
    refine pr_let (fun v82 => ?_)
    exact ih _ _ _ _ _ _ _ _ _ 
theorem g_X50_gatherAmount_l22_pr  {k115 : Int → Int → Int → Int → ga_D → ga_S} (hk115 : ∀ (x1 x2 x3 x6 : Int) (D : ga_D), ga_pr D (k115 x1 x2 x3 x6 D)) : ∀ (n : Nat) (x1 x2 x3 x4 x6 x8 : Int) (D : ga_D), ga_pr D (g_X50_gatherAmount_l22 n x1 x2 x3 x4 x6 x8 D k115) := by
  intro n
  induction n with
  | zero => intro x1 x2 x3 x4 x6 x8 D; exact pr_none
  | succ n ih =>
    intro x1 x2 x3 x4 x6 x8 D
    show ga_pr D (if 9 ≤ x8 then (k115 x1 x2 x3 x6 D) else (g_X50_gatherAmount_l35 aw_fu x1 x2 x3 x4 x6 x8 0 0 D (fun x1 x2 x3 x4 x6 x8 x9 D88 => ga_ck (0 ≤ x8 ∧ x8 < 9) (ga_ck (x4 ≠ 0) (ga_ck (x4 ≠ 0) (ga_let (Int.tmod (aw_w64 (x6 + (aw_w64 (x9 * (Int.tmod (D88 5189 x8) x4))))) x4) (fun v107 => ga_let (aw_w32 (x8 + 1)) (fun v109 => g_X50_gatherAmount_l22 n x1 x2 x3 x4 v107 v109 D88 k115))))))))
    refine pr_ite (fun c26 => ?_) (fun c26 => ?_)
    exact hk115 _ _ _ _ _ 
    refine g_X50_gatherAmount_l35_pr (fun x1 x2 x3 x4 x6 x8 x9 D88 => ?_) _ _ _ _ _ _ _ _ _ _ 
    refine pr_ck (fun ha98 => ?_)
    refine pr_ck (fun hz101 => ?_)
    refine pr_ck (fun hz106 => ?_)
    refine pr_let (fun v107 => ?_)
    refine pr_let (fun v109 => ?_)
    exact ih _ _ _ _ _ _ _ 
theorem g_X50_gatherAmount_l2_pr  {k129 : Int → ga_D → ga_S} (hk129 : ∀ (x2 : Int) (D : ga_D), ga_pr D (k129 x2 D)) : ∀ (n : Nat) (x1 x2 x3 : Int) (D : ga_D), ga_pr D (g_X50_gatherAmount_l2 n x1 x2 x3 D k129) := by
  intro n
  induction n with
  | zero => intro x1 x2 x3 D; exact pr_none
  | succ n ih =>
    intro x1 x2 x3 D
    show ga_pr D (if 8 ≤ x3 then (k129 x2 D) else (ga_ck (0 ≤ x3 ∧ x3 < 8) (ga_let (D 5177 x3) (fun v14 => g_X50_gatherAmount_l22 aw_fu x1 x2 x3 v14 0 0 D (fun x1 x2 x3 x6 D115 => ga_ck (0 ≤ x3 ∧ x3 < 8) (ga_let (ga_set D115 5187 x3 x6) (fun D122 => ga_let (aw_w32 (x3 + 1)) (fun v123 => g_X50_gatherAmount_l2 n x1 x2 v123 D122 k129))))))))
    refine pr_ite (fun c5 => ?_) (fun c5 => ?_)
    exact hk129 _ _ 
    refine pr_ck (fun ha13 => ?_)
    refine pr_let (fun v14 => ?_)
    refine g_X50_gatherAmount_l22_pr (fun x1 x2 x3 x6 D115 => ?_) _ _ _ _ _ _ _ _ 
    refine pr_ck (fun ha122 => ?_)
    refine pr_upd (ga_Pn K_5187 rfl) (fun D122 => ?_)
    refine pr_let (fun v123 => ?_)
    exact ih _ _ _ _ 
theorem g_X50_gatherAmount_pr {x1 x2 : Int} {D : ga_D} : ga_pr D (g_X50_gatherAmount x1 x2 D) := by
  unfold g_X50_gatherAmount
  refine g_X50_gatherAmount_l2_pr (fun x2 D129 => ?_) _ _ _ _ _ 
  refine pr_bind (g_X50_gather_pr) (fun r131 D131 => ?_)
  exact pr_some
theorem g_X50_wordsOf_l3_pr  {k31 : Int → ga_D → ga_S} (hk31 : ∀ (x2 : Int) (D : ga_D), ga_pr D (k31 x2 D)) : ∀ (n : Nat) (x1 x2 : Int) (D : ga_D), ga_pr D (g_X50_wordsOf_l3 n x1 x2 D k31) := by
  intro n
  induction n with
  | zero => intro x1 x2 D; exact pr_none
  | succ n ih =>
    intro x1 x2 D
    show ga_pr D (if x2 ≤ 0 then (k31 x2 D) else (ga_ck (0 ≤ aw_w32 ((aw_w32 ((aw_w32 (24 * x1)) + x2)) - 1) ∧ aw_w32 ((aw_w32 ((aw_w32 (24 * x1)) + x2)) - 1) < 144) (if D 5186 (aw_w32 ((aw_w32 ((aw_w32 (24 * x1)) + x2)) - 1)) ≠ 0 then (k31 x2 D) else (ga_let (aw_w32 (x2 + (-1))) (fun v25 => g_X50_wordsOf_l3 n x1 v25 D k31)))))
    refine pr_ite (fun c4 => ?_) (fun c4 => ?_)
    exact hk31 _ _ 
    refine pr_ck (fun ha19 => ?_)
    refine pr_ite (fun c22 => ?_) (fun c22 => ?_)
    exact hk31 _ _ 
    refine pr_let (fun v25 => ?_)
    exact ih _ _ _ 
theorem g_X50_wordsOf_pr {x1 : Int} {D : ga_D} : ga_pr D (g_X50_wordsOf x1 D) := by
  unfold g_X50_wordsOf
  refine g_X50_wordsOf_l3_pr (fun x2 D31 => ?_) _ _ _ _ 
  exact pr_some
theorem g_X50_growUsed_l5_pr  {k60 : ga_D → ga_S} (hk60 : ∀ (D : ga_D), ga_pr D (k60 D)) : ∀ (n : Nat) (x3 x5 : Int) (D : ga_D), ga_pr D (g_X50_growUsed_l5 n x3 x5 D k60) := by
  intro n
  induction n with
  | zero => intro x3 x5 D; exact pr_none
  | succ n ih =>
    intro x3 x5 D
    show ga_pr D (if D 5163 28 ≤ x5 then (k60 D) else (ga_ck (0 ≤ aw_w32 (48 + x5) ∧ aw_w32 (48 + x5) < 144) (ga_let (aw_w64 ((aw_w64 ((D 5186 (aw_w32 (48 + x5))) * 2)) + x3)) (fun v30 => ga_ck (0 ≤ aw_w32 (48 + x5) ∧ aw_w32 (48 + x5) < 144) (ga_let (ga_set D 5186 (aw_w32 (48 + x5)) (aw_land v30 268435455)) (fun D47 => ga_let (aw_lshr v30 28) (fun v53 => ga_let (aw_w32 (x5 + 1)) (fun v54 => g_X50_growUsed_l5 n v53 v54 D47 k60))))))))
    refine pr_ite (fun c11 => ?_) (fun c11 => ?_)
    exact hk60 _ 
    refine pr_ck (fun ha23 => ?_)
    refine pr_let (fun v30 => ?_)
    refine pr_ck (fun ha47 => ?_)
    refine pr_upd (ga_Pn K_5186 rfl) (fun D47 => ?_)
    refine pr_let (fun v53 => ?_)
    refine pr_let (fun v54 => ?_)
    exact ih _ _ _ 
theorem g_X50_growUsed_pr {x1 : Int} {D : ga_D} : ga_pr D (g_X50_growUsed x1 D) := by
  unfold g_X50_growUsed
  refine g_X50_growUsed_l5_pr (fun D60 => ?_) _ _ _ _ 
  exact pr_some
theorem g_X50_isLeftLess_l7_pr  {k33 : Int → ga_D → ga_S} {k67 : ga_D → ga_S} (hk33 : ∀ (x1 : Int) (D : ga_D), ga_pr D (k33 x1 D)) (hk67 : ∀ (D : ga_D), ga_pr D (k67 D)) : ∀ (n : Nat) (x1 : Int) (D : ga_D), ga_pr D (g_X50_isLeftLess_l7 n x1 D k33 k67) := by
  intro n
  induction n with
  | zero => intro x1 D; exact pr_none
  | succ n ih =>
    intro x1 D
    show ga_pr D (if x1 < 0 then (k67 D) else (ga_ck (0 ≤ aw_w32 (48 + x1) ∧ aw_w32 (48 + x1) < 144) (ga_ck (0 ≤ aw_w32 (24 + x1) ∧ aw_w32 (24 + x1) < 144) (if D 5186 (aw_w32 (48 + x1)) = D 5186 (aw_w32 (24 + x1)) then (ga_let (aw_w32 (x1 + (-1))) (fun v61 => g_X50_isLeftLess_l7 n v61 D k33 k67)) else (k33 x1 D)))))
    refine pr_ite (fun c8 => ?_) (fun c8 => ?_)
    exact hk67 _ 
    refine pr_ck (fun ha19 => ?_)
    refine pr_ck (fun ha28 => ?_)
    refine pr_ite (fun c30 => ?_) (fun c30 => ?_)
    refine pr_let (fun v61 => ?_)
    exact ih _ _ 
    exact hk33 _ _ 
theorem g_X50_isLeftLess_pr {D : ga_D} : ga_pr D (g_X50_isLeftLess D) := by
  unfold g_X50_isLeftLess
  refine pr_let (fun v6 => ?_)
  refine g_X50_isLeftLess_l7_pr (fun x1 D33 => ?_) (fun D67 => ?_) _ _ _ 
  refine pr_ck (fun ha41 => ?_)
  refine pr_ck (fun ha50 => ?_)
  refine pr_ite (fun c52 => ?_) (fun c52 => ?_)
  exact pr_some
  exact pr_some
  exact pr_some
theorem g_X50_lessenLeft_j47_pr  {k4 : Int → Int → ga_D → ga_S} (hk4 : ∀ (x1 x3 : Int) (D : ga_D), ga_pr D (k4 x1 x3 D)) (x3 x4 s0 : Int) (D : ga_D) : ga_pr D (g_X50_lessenLeft_j47 x3 x4 s0 D k4) := by
  unfold g_X50_lessenLeft_j47
  refine pr_ck (fun ha62 => ?_)
  refine pr_upd (ga_Pn K_5186 rfl) (fun D62 => ?_)
  refine pr_let (fun v63 => ?_)
  exact hk4 _ _ _ 
theorem g_X50_lessenLeft_l4_pr  {k69 : ga_D → ga_S} (hk69 : ∀ (D : ga_D), ga_pr D (k69 D)) : ∀ (n : Nat) (x1 x3 : Int) (D : ga_D), ga_pr D (g_X50_lessenLeft_l4 n x1 x3 D k69) := by
  intro n
  induction n with
  | zero => intro x1 x3 D; exact pr_none
  | succ n ih =>
    intro x1 x3 D
    show ga_pr D (if D 5163 28 ≤ x3 then (k69 D) else (ga_ck (0 ≤ aw_w32 (48 + x3) ∧ aw_w32 (48 + x3) < 144) (ga_ck (0 ≤ aw_w32 (24 + x3) ∧ aw_w32 (24 + x3) < 144) (ga_let (aw_w64 ((aw_w64 ((D 5186 (aw_w32 (48 + x3))) - (D 5186 (aw_w32 (24 + x3))))) - x1)) (fun v33 => if 0 ≤ v33 then (g_X50_lessenLeft_j47 x3 v33 0 D (fun x1 x3 D4 => g_X50_lessenLeft_l4 n x1 x3 D4 k69)) else (g_X50_lessenLeft_j47 x3 v33 1 D (fun x1 x3 D4 => g_X50_lessenLeft_l4 n x1 x3 D4 k69)))))))
    refine pr_ite (fun c9 => ?_) (fun c9 => ?_)
    exact hk69 _ 
    refine pr_ck (fun ha20 => ?_)
    refine pr_ck (fun ha29 => ?_)
    refine pr_let (fun v33 => ?_)
    refine pr_ite (fun c39 => ?_) (fun c39 => ?_)
    refine g_X50_lessenLeft_j47_pr (fun x1 x3 D4 => ?_) _ _ _ _ 
    exact ih _ _ _ 
    refine g_X50_lessenLeft_j47_pr (fun x1 x3 D4 => ?_) _ _ _ _ 
    exact ih _ _ _ 
theorem g_X50_lessenLeft_pr {D : ga_D} : ga_pr D (g_X50_lessenLeft D) := by
  unfold g_X50_lessenLeft
  refine g_X50_lessenLeft_l4_pr (fun D69 => ?_) _ _ _ _ 
  exact pr_some
theorem g_X50_divide_j89_pr  {k35 : Int → Int → Int → ga_D → ga_S} (hk35 : ∀ (x1 x2 x4 : Int) (D : ga_D), ga_pr D (k35 x1 x2 x4 D)) (x1 x2 x4 s0 : Int) (D : ga_D) : ga_pr D (g_X50_divide_j89 x1 x2 x4 s0 D k35) := by
  unfold g_X50_divide_j89
  refine pr_ck (fun hp89 => ?_)
  refine pr_upd (ga_Pn K_5163 rfl) (fun D89 => ?_)
  refine pr_let (fun v97 => ?_)
  refine pr_bind (g_X50_isLeftLess_pr) (fun r99 D99 => ?_)
  refine pr_ite (fun c102 => ?_) (fun c102 => ?_)
  refine pr_let (fun v113 => ?_)
  exact hk35 _ _ _ _ 
  refine pr_bind (g_X50_lessenLeft_pr) (fun r106 D106 => ?_)
  refine pr_let (fun v112 => ?_)
  refine pr_let (fun v113 => ?_)
  exact hk35 _ _ _ _ 
theorem g_X50_divide_j84_pr  {k35 : Int → Int → Int → ga_D → ga_S} (hk35 : ∀ (x1 x2 x4 : Int) (D : ga_D), ga_pr D (k35 x1 x2 x4 D)) (x1 x2 x4 : Int) (D : ga_D) : ga_pr D (g_X50_divide_j84 x1 x2 x4 D k35) := by
  unfold g_X50_divide_j84
  refine g_X50_divide_j89_pr (fun x1 x2 x4 D35 => ?_) _ _ _ _ _ 
  exact hk35 _ _ _ _ 
theorem g_X50_divide_l35_pr  {k119 : Int → ga_D → ga_S} (hk119 : ∀ (x2 : Int) (D : ga_D), ga_pr D (k119 x2 D)) : ∀ (n : Nat) (x1 x2 x4 : Int) (D : ga_D), ga_pr D (g_X50_divide_l35 n x1 x2 x4 D k119) := by
  intro n
  induction n with
  | zero => intro x1 x2 x4 D; exact pr_none
  | succ n ih =>
    intro x1 x2 x4 D
    show ga_pr D (if x4 < 0 then (k119 x2 D) else (ga_ck (0 ≤ aw_w32 ((aw_w32 (24 * x1)) + (aw_w32 (Int.tdiv x4 28))) ∧ aw_w32 ((aw_w32 (24 * x1)) + (aw_w32 (Int.tdiv x4 28))) < 144) (ga_bind (g_X50_growUsed (aw_land (aw_lshr (D 5186 (aw_w32 ((aw_w32 (24 * x1)) + (aw_w32 (Int.tdiv x4 28))))) (Int.tmod x4 28)) 1) D) (fun r64 D64 => if D64 5163 29 ≠ 0 then (g_X50_divide_j84 x1 x2 x4 D64 (fun x1 x2 x4 D35 => g_X50_divide_l35 n x1 x2 x4 D35 k119)) else (if aw_lshr x2 61 = 0 then (g_X50_divide_j89 x1 x2 x4 0 D64 (fun x1 x2 x4 D35 => g_X50_divide_l35 n x1 x2 x4 D35 k119)) else (g_X50_divide_j84 x1 x2 x4 D64 (fun x1 x2 x4 D35 => g_X50_divide_l35 n x1 x2 x4 D35 k119)))))))
    refine pr_ite (fun c37 => ?_) (fun c37 => ?_)
    exact hk119 _ _ 
    refine pr_ck (fun ha55 => ?_)
    refine pr_bind (g_X50_growUsed_pr) (fun r64 D64 => ?_)
    refine pr_ite (fun c72 => ?_) (fun c72 => ?_)
    refine g_X50_divide_j84_pr (fun x1 x2 x4 D35 => ?_) _ _ _ _ 
    exact ih _ _ _ _ 
    refine pr_ite (fun c81 => ?_) (fun c81 => ?_)
    refine g_X50_divide_j89_pr (fun x1 x2 x4 D35 => ?_) _ _ _ _ _ 
    exact ih _ _ _ _ 
    refine g_X50_divide_j84_pr (fun x1 x2 x4 D35 => ?_) _ _ _ _ 
    exact ih _ _ _ _ 
theorem g_X50_divide_pr {x1 : Int} {D : ga_D} : ga_pr D (g_X50_divide x1 D) := by
  unfold g_X50_divide
  refine pr_upd (ga_Pn K_5163 rfl) (fun D2 => ?_)
  refine pr_bind (g_X50_clear_pr) (fun r7 D7 => ?_)
  refine pr_bind (g_X50_wordsOf_pr) (fun r13 D13 => ?_)
  refine pr_upd (ga_Pn K_5163 rfl) (fun D18 => ?_)
  refine pr_bind (g_X50_wordsOf_pr) (fun r25 D25 => ?_)
  refine pr_let (fun v33 => ?_)
  refine g_X50_divide_l35_pr (fun x2 D119 => ?_) _ _ _ _ _ 
  exact pr_some
theorem g_X50_isZero_l4_pr  {k42 : Int → ga_D → ga_S} (hk42 : ∀ (x2 : Int) (D : ga_D), ga_pr D (k42 x2 D)) : ∀ (n : Nat) (x1 x2 x3 : Int) (D : ga_D), ga_pr D (g_X50_isZero_l4 n x1 x2 x3 D k42) := by
  intro n
  induction n with
  | zero => intro x1 x2 x3 D; exact pr_none
  | succ n ih =>
    intro x1 x2 x3 D
    show ga_pr D (if 24 ≤ x3 then (k42 x2 D) else (if x2 = 0 then (ga_let (aw_w32 (x3 + 1)) (fun v36 => g_X50_isZero_l4 n x1 0 v36 D k42)) else (ga_ck (0 ≤ aw_w32 ((aw_w32 (24 * x1)) + x3) ∧ aw_w32 ((aw_w32 (24 * x1)) + x3) < 144) (if D 5186 (aw_w32 ((aw_w32 (24 * x1)) + x3)) ≠ 0 then (ga_let (aw_w32 (x3 + 1)) (fun v36 => g_X50_isZero_l4 n x1 0 v36 D k42)) else (ga_let (aw_w32 (x3 + 1)) (fun v36 => g_X50_isZero_l4 n x1 1 v36 D k42))))))
    refine pr_ite (fun c7 => ?_) (fun c7 => ?_)
    exact hk42 _ _ 
    refine pr_ite (fun c11 => ?_) (fun c11 => ?_)
    refine pr_let (fun v36 => ?_)
    exact ih _ _ _ _ 
    refine pr_ck (fun ha24 => ?_)
    refine pr_ite (fun c27 => ?_) (fun c27 => ?_)
    refine pr_let (fun v36 => ?_)
    exact ih _ _ _ _ 
    refine pr_let (fun v36 => ?_)
    exact ih _ _ _ _ 
theorem g_X50_isZero_pr {x1 : Int} {D : ga_D} : ga_pr D (g_X50_isZero x1 D) := by
  unfold g_X50_isZero
  refine g_X50_isZero_l4_pr (fun x2 D42 => ?_) _ _ _ _ _ 
  refine pr_ck (fun hr43 => ?_)
  exact pr_some
theorem g_X50_copy_l2_pr  {k36 : ga_D → ga_S} (hk36 : ∀ (D : ga_D), ga_pr D (k36 D)) : ∀ (n : Nat) (x1 x2 x3 : Int) (D : ga_D), ga_pr D (g_X50_copy_l2 n x1 x2 x3 D k36) := by
  intro n
  induction n with
  | zero => intro x1 x2 x3 D; exact pr_none
  | succ n ih =>
    intro x1 x2 x3 D
    show ga_pr D (if 24 ≤ x3 then (k36 D) else (ga_ck (0 ≤ aw_w32 ((aw_w32 (24 * x1)) + x3) ∧ aw_w32 ((aw_w32 (24 * x1)) + x3) < 144) (ga_ck (0 ≤ aw_w32 ((aw_w32 (24 * x2)) + x3) ∧ aw_w32 ((aw_w32 (24 * x2)) + x3) < 144) (ga_let (ga_set D 5186 (aw_w32 ((aw_w32 (24 * x2)) + x3)) (D 5186 (aw_w32 ((aw_w32 (24 * x1)) + x3)))) (fun D29 => ga_let (aw_w32 (x3 + 1)) (fun v30 => g_X50_copy_l2 n x1 x2 v30 D29 k36))))))
    refine pr_ite (fun c5 => ?_) (fun c5 => ?_)
    exact hk36 _ 
    refine pr_ck (fun ha28 => ?_)
    refine pr_ck (fun ha29 => ?_)
    refine pr_upd (ga_Pn K_5186 rfl) (fun D29 => ?_)
    refine pr_let (fun v30 => ?_)
    exact ih _ _ _ _ 
theorem g_X50_copy_pr {x1 x2 : Int} {D : ga_D} : ga_pr D (g_X50_copy x1 x2 D) := by
  unfold g_X50_copy
  refine g_X50_copy_l2_pr (fun D36 => ?_) _ _ _ _ _ 
  exact pr_some
theorem g_X50_lessen_j53_pr  {k5 : Int → Int → Int → Int → ga_D → ga_S} (hk5 : ∀ (x1 x2 x3 x5 : Int) (D : ga_D), ga_pr D (k5 x1 x2 x3 x5 D)) (x1 x2 x5 x6 s0 : Int) (D : ga_D) : ga_pr D (g_X50_lessen_j53 x1 x2 x5 x6 s0 D k5) := by
  unfold g_X50_lessen_j53
  refine pr_ck (fun ha71 => ?_)
  refine pr_upd (ga_Pn K_5186 rfl) (fun D71 => ?_)
  refine pr_let (fun v72 => ?_)
  exact hk5 _ _ _ _ _ 
theorem g_X50_lessen_l5_pr  {k78 : ga_D → ga_S} (hk78 : ∀ (D : ga_D), ga_pr D (k78 D)) : ∀ (n : Nat) (x1 x2 x3 x5 : Int) (D : ga_D), ga_pr D (g_X50_lessen_l5 n x1 x2 x3 x5 D k78) := by
  intro n
  induction n with
  | zero => intro x1 x2 x3 x5 D; exact pr_none
  | succ n ih =>
    intro x1 x2 x3 x5 D
    show ga_pr D (if 24 ≤ x5 then (k78 D) else (ga_ck (0 ≤ aw_w32 ((aw_w32 (24 * x1)) + x5) ∧ aw_w32 ((aw_w32 (24 * x1)) + x5) < 144) (ga_ck (0 ≤ aw_w32 ((aw_w32 (24 * x2)) + x5) ∧ aw_w32 ((aw_w32 (24 * x2)) + x5) < 144) (ga_let (aw_w64 ((aw_w64 ((D 5186 (aw_w32 ((aw_w32 (24 * x1)) + x5))) - (D 5186 (aw_w32 ((aw_w32 (24 * x2)) + x5))))) - x3)) (fun v39 => if 0 ≤ v39 then (g_X50_lessen_j53 x1 x2 x5 v39 0 D (fun x1 x2 x3 x5 D5 => g_X50_lessen_l5 n x1 x2 x3 x5 D5 k78)) else (g_X50_lessen_j53 x1 x2 x5 v39 1 D (fun x1 x2 x3 x5 D5 => g_X50_lessen_l5 n x1 x2 x3 x5 D5 k78)))))))
    refine pr_ite (fun c9 => ?_) (fun c9 => ?_)
    exact hk78 _ 
    refine pr_ck (fun ha23 => ?_)
    refine pr_ck (fun ha35 => ?_)
    refine pr_let (fun v39 => ?_)
    refine pr_ite (fun c45 => ?_) (fun c45 => ?_)
    refine g_X50_lessen_j53_pr (fun x1 x2 x3 x5 D5 => ?_) _ _ _ _ _ _ 
    exact ih _ _ _ _ _ 
    refine g_X50_lessen_j53_pr (fun x1 x2 x3 x5 D5 => ?_) _ _ _ _ _ _ 
    exact ih _ _ _ _ _ 
theorem g_X50_lessen_pr {x1 x2 : Int} {D : ga_D} : ga_pr D (g_X50_lessen x1 x2 D) := by
  unfold g_X50_lessen
  refine g_X50_lessen_l5_pr (fun D78 => ?_) _ _ _ _ _ _ 
  exact pr_some
theorem g_X50_partOf_l72_pr  {k105 : Int → ga_D → ga_S} (hk105 : ∀ (x3 : Int) (D : ga_D), ga_pr D (k105 x3 D)) : ∀ (n : Nat) (x1 x3 x5 : Int) (D : ga_D), ga_pr D (g_X50_partOf_l72 n x1 x3 x5 D k105) := by
  intro n
  induction n with
  | zero => intro x1 x3 x5 D; exact pr_none
  | succ n ih =>
    intro x1 x3 x5 D
    show ga_pr D (if x1 ≤ x5 then (k105 x3 D) else (ga_bind (g_X50_copy 2 0 D) (fun r81 D81 => ga_bind (g_X50_grow 0 1000000000 0 D81) (fun r90 D90 => ga_bind (g_X50_divide 0 D90) (fun r95 D95 => ga_let (aw_w32 (x5 + 1)) (fun v99 => g_X50_partOf_l72 n x1 r95 v99 D95 k105))))))
    refine pr_ite (fun c75 => ?_) (fun c75 => ?_)
    exact hk105 _ _ 
    refine pr_bind (g_X50_copy_pr) (fun r81 D81 => ?_)
    refine pr_bind (g_X50_grow_pr) (fun r90 D90 => ?_)
    refine pr_bind (g_X50_divide_pr) (fun r95 D95 => ?_)
    refine pr_let (fun v99 => ?_)
    exact ih _ _ _ _ 
theorem g_X50_partOf_j45_pr  (x1 x5 s0 : Int) (D : ga_D) : ga_pr D (g_X50_partOf_j45 x1 x5 s0 D) := by
  unfold g_X50_partOf_j45
  refine pr_ite (fun c48 => ?_) (fun c48 => ?_)
  refine g_X50_partOf_l72_pr (fun x3 D105 => ?_) _ _ _ _ _ 
  exact pr_some
  refine pr_bind (g_X50_copy_pr) (fun r54 D54 => ?_)
  refine pr_bind (g_X50_lessen_pr) (fun r60 D60 => ?_)
  refine pr_bind (g_X50_copy_pr) (fun r66 D66 => ?_)
  refine g_X50_partOf_l72_pr (fun x3 D105 => ?_) _ _ _ _ _ 
  exact pr_some
theorem g_X50_partOf_pr {x1 x2 : Int} {D : ga_D} : ga_pr D (g_X50_partOf x1 x2 D) := by
  unfold g_X50_partOf
  refine pr_ite (fun c1 => ?_) (fun c1 => ?_)
  exact pr_some
  refine pr_ite (fun c7 => ?_) (fun c7 => ?_)
  refine pr_bind (g_X50_divide_pr) (fun r16 D16 => ?_)
  refine pr_ite (fun c21 => ?_) (fun c21 => ?_)
  refine g_X50_partOf_l72_pr (fun x3 D105 => ?_) _ _ _ _ _ 
  exact pr_some
  refine pr_bind (g_X50_isZero_pr) (fun r26 D26 => ?_)
  refine pr_ite (fun c33 => ?_) (fun c33 => ?_)
  refine g_X50_partOf_j45_pr _ _ _ _ 
  refine g_X50_partOf_j45_pr _ _ _ _ 
  exact pr_some
theorem g_X50_out_pr {x1 x2 x3 : Int} {D : ga_D} : ga_pr D (g_X50_out x1 x2 x3 D) := by
  unfold g_X50_out
  refine pr_ite (fun c4 => ?_) (fun c4 => ?_)
  exact pr_some
  refine pr_ite (fun c8 => ?_) (fun c8 => ?_)
  exact pr_some
  refine pr_ck (fun ha17 => ?_)
  refine pr_ite (fun c18 => ?_) (fun c18 => ?_)
  exact pr_some
  refine pr_bind (g_X50_isKind_pr) (fun r23 D23 => ?_)
  refine pr_ite (fun c26 => ?_) (fun c26 => ?_)
  exact pr_some
  refine pr_ite (fun c30 => ?_) (fun c30 => ?_)
  exact pr_some
  refine pr_ite (fun c36 => ?_) (fun c36 => ?_)
  refine pr_bind (g_X50_prepare_pr) (fun r45 D45 => ?_)
  refine pr_bind (g_X50_weighPort_pr) (fun r52 D52 => ?_)
  refine pr_bind (g_X50_gatherAmount_pr) (fun r58 D58 => ?_)
  refine pr_bind (g_X50_partOf_pr) (fun r64 D64 => ?_)
  exact pr_some
  exact pr_some
theorem g_X50_machine_pr {x1 : Int} {D : ga_D} : ga_pr D (g_X50_machine x1 D) := by
  unfold g_X50_machine
  refine pr_ck (fun ha5 => ?_)
  refine pr_ite (fun c7 => ?_) (fun c7 => ?_)
  exact pr_some
  refine pr_ite (fun c12 => ?_) (fun c12 => ?_)
  exact pr_some
  refine pr_ite (fun c17 => ?_) (fun c17 => ?_)
  refine pr_ck (fun ha31 => ?_)
  refine pr_ck (fun ha33 => ?_)
  refine pr_upd (ga_Pn K_5166 rfl) (fun D33 => ?_)
  refine pr_ck (fun ha40 => ?_)
  refine pr_ck (fun ha43 => ?_)
  refine pr_upd (ga_Pn K_5164 rfl) (fun D43 => ?_)
  refine pr_bind (g_X50_touch_pr) (fun r45 D45 => ?_)
  refine pr_ck (fun ha53 => ?_)
  exact pr_some
  exact pr_some
theorem g_X50_port_pr {D : ga_D} : ga_pr D (g_X50_port D) := by
  unfold g_X50_port
  refine pr_ck (fun ha5 => ?_)
  refine pr_ite (fun c7 => ?_) (fun c7 => ?_)
  refine pr_ck (fun ha18 => ?_)
  refine pr_ck (fun ha21 => ?_)
  refine pr_upd (ga_Pn K_5165 rfl) (fun D21 => ?_)
  refine pr_bind (g_X50_touch_pr) (fun r23 D23 => ?_)
  refine pr_ck (fun ha31 => ?_)
  exact pr_some
  exact pr_some
theorem g_X50_isOut_pr {x1 x2 : Int} {D : ga_D} : ga_pr D (g_X50_isOut x1 x2 D) := by
  unfold g_X50_isOut
  refine pr_bind (g_X50_isMachine_pr) (fun r2 D2 => ?_)
  refine pr_ite (fun c5 => ?_) (fun c5 => ?_)
  exact pr_some
  refine pr_ite (fun c9 => ?_) (fun c9 => ?_)
  exact pr_some
  refine pr_ck (fun ha18 => ?_)
  refine pr_ite (fun c19 => ?_) (fun c19 => ?_)
  exact pr_some
  exact pr_some
theorem g_X50_joinOut_j43_pr  (x1 x2 x3 s0 : Int) (D : ga_D) : ga_pr D (g_X50_joinOut_j43 x1 x2 x3 s0 D) := by
  unfold g_X50_joinOut_j43
  refine pr_bind (g_X50_isOut_pr) (fun r48 D48 => ?_)
  refine pr_ite (fun c51 => ?_) (fun c51 => ?_)
  exact pr_some
  refine pr_ite (fun c56 => ?_) (fun c56 => ?_)
  refine pr_ck (fun ha71 => ?_)
  refine pr_upd (ga_Pn K_5167 rfl) (fun D71 => ?_)
  refine pr_bind (g_X50_touch_pr) (fun r73 D73 => ?_)
  exact pr_some
  exact pr_some
theorem g_X50_joinOut_j38_pr  (x1 x2 x3 : Int) (D : ga_D) : ga_pr D (g_X50_joinOut_j38 x1 x2 x3 D) := by
  unfold g_X50_joinOut_j38
  refine g_X50_joinOut_j43_pr _ _ _ _ _ 
theorem g_X50_joinOut_j42_pr  (x1 x2 x3 : Int) (D : ga_D) : ga_pr D (g_X50_joinOut_j42 x1 x2 x3 D) := by
  unfold g_X50_joinOut_j42
  refine g_X50_joinOut_j43_pr _ _ _ _ _ 
theorem g_X50_joinOut_j19_pr  (x1 x2 x3 : Int) (D : ga_D) : ga_pr D (g_X50_joinOut_j19 x1 x2 x3 D) := by
  unfold g_X50_joinOut_j19
  refine pr_ite (fun c22 => ?_) (fun c22 => ?_)
  refine g_X50_joinOut_j42_pr _ _ _ _ 
  refine pr_ck (fun ha33 => ?_)
  refine pr_ite (fun c35 => ?_) (fun c35 => ?_)
  refine g_X50_joinOut_j42_pr _ _ _ _ 
  refine g_X50_joinOut_j38_pr _ _ _ _ 
theorem g_X50_joinOut_pr {x1 x2 x3 : Int} {D : ga_D} : ga_pr D (g_X50_joinOut x1 x2 x3 D) := by
  unfold g_X50_joinOut
  refine pr_ite (fun c2 => ?_) (fun c2 => ?_)
  refine g_X50_joinOut_j38_pr _ _ _ _ 
  refine pr_ite (fun c6 => ?_) (fun c6 => ?_)
  refine g_X50_joinOut_j19_pr _ _ _ _ 
  refine pr_ck (fun ha15 => ?_)
  refine pr_ite (fun c16 => ?_) (fun c16 => ?_)
  refine g_X50_joinOut_j38_pr _ _ _ _ 
  refine g_X50_joinOut_j19_pr _ _ _ _ 
theorem g_X50_isFree_pr {x1 x2 x3 : Int} {D : ga_D} : ga_pr D (g_X50_isFree x1 x2 x3 D) := by
  unfold g_X50_isFree
  refine pr_bind (g_X50_isOut_pr) (fun r3 D3 => ?_)
  refine pr_ite (fun c6 => ?_) (fun c6 => ?_)
  exact pr_some
  refine pr_bind (g_X50_isKind_pr) (fun r11 D11 => ?_)
  refine pr_ite (fun c14 => ?_) (fun c14 => ?_)
  exact pr_some
  refine pr_ck (fun ha23 => ?_)
  refine pr_ite (fun c26 => ?_) (fun c26 => ?_)
  exact pr_some
  exact pr_some
theorem g_X50_isShare_pr {x0 x2 : Int} {D : ga_D} : ga_pr D (g_X50_isShare x0 x2 D) := by
  unfold g_X50_isShare
  refine pr_ite (fun c3 => ?_) (fun c3 => ?_)
  exact pr_some
  refine pr_ite (fun c11 => ?_) (fun c11 => ?_)
  exact pr_some
  refine pr_ite (fun c17 => ?_) (fun c17 => ?_)
  exact pr_some
  refine pr_ite (fun c23 => ?_) (fun c23 => ?_)
  exact pr_some
  exact pr_some
theorem g_X50_fits_pr {x1 x2 x3 x4 x6 : Int} {D : ga_D} : ga_pr D (g_X50_fits x1 x2 x3 x4 x6 D) := by
  unfold g_X50_fits
  refine pr_let (fun v11 => ?_)
  refine pr_ck (fun ha19 => ?_)
  refine pr_let (fun v21 => ?_)
  refine pr_ck (fun ha34 => ?_)
  refine pr_ite (fun c46 => ?_) (fun c46 => ?_)
  exact pr_some
  exact pr_some
theorem g_X50_share_pr {x1 x2 x3 x4 x6 : Int} {D : ga_D} : ga_pr D (g_X50_share x1 x2 x3 x4 x6 D) := by
  unfold g_X50_share
  refine pr_bind (g_X50_isFree_pr) (fun r4 D4 => ?_)
  refine pr_ite (fun c7 => ?_) (fun c7 => ?_)
  exact pr_some
  refine pr_bind (g_X50_isShare_pr) (fun r14 D14 => ?_)
  refine pr_ite (fun c17 => ?_) (fun c17 => ?_)
  exact pr_some
  refine pr_bind (g_X50_fits_pr) (fun r28 D28 => ?_)
  refine pr_ite (fun c31 => ?_) (fun c31 => ?_)
  refine pr_ck (fun ha52 => ?_)
  refine pr_upd (ga_Pn K_5168 rfl) (fun D52 => ?_)
  refine pr_ck (fun ha69 => ?_)
  refine pr_upd (ga_Pn K_5169 rfl) (fun D69 => ?_)
  refine pr_bind (g_X50_touch_pr) (fun r71 D71 => ?_)
  exact pr_some
  exact pr_some
theorem g_X50_crush_pr {x1 x2 x3 x4 x6 : Int} {D : ga_D} : ga_pr D (g_X50_crush x1 x2 x3 x4 x6 D) := by
  unfold g_X50_crush
  refine pr_bind (g_X50_isMachine_pr) (fun r2 D2 => ?_)
  refine pr_ite (fun c5 => ?_) (fun c5 => ?_)
  exact pr_some
  refine pr_bind (g_X50_isKind_pr) (fun r10 D10 => ?_)
  refine pr_ite (fun c13 => ?_) (fun c13 => ?_)
  exact pr_some
  refine pr_bind (g_X50_isKind_pr) (fun r18 D18 => ?_)
  refine pr_ite (fun c21 => ?_) (fun c21 => ?_)
  exact pr_some
  refine pr_ite (fun c26 => ?_) (fun c26 => ?_)
  exact pr_some
  refine pr_bind (g_X50_isShare_pr) (fun r33 D33 => ?_)
  refine pr_ite (fun c36 => ?_) (fun c36 => ?_)
  refine pr_ck (fun ha51 => ?_)
  refine pr_upd (ga_Pn K_5170 rfl) (fun D51 => ?_)
  refine pr_ck (fun ha64 => ?_)
  refine pr_upd (ga_Pn K_5171 rfl) (fun D64 => ?_)
  refine pr_ck (fun ha77 => ?_)
  refine pr_upd (ga_Pn K_5172 rfl) (fun D77 => ?_)
  refine pr_bind (g_X50_touch_pr) (fun r79 D79 => ?_)
  exact pr_some
  exact pr_some
theorem g_X50_reckonLoad_l7_pr  {k41 : ga_D → ga_S} (hk41 : ∀ (D : ga_D), ga_pr D (k41 D)) : ∀ (n : Nat) (x1 x2 : Int) (D : ga_D), ga_pr D (g_X50_reckonLoad_l7 n x1 x2 D k41) := by
  intro n
  induction n with
  | zero => intro x1 x2 D; exact pr_none
  | succ n ih =>
    intro x1 x2 D
    show ga_pr D (if D 5163 0 ≤ x2 then (k41 D) else (ga_ck (0 ≤ aw_w32 ((aw_w32 (3 * x1)) + x2) ∧ aw_w32 ((aw_w32 (3 * x1)) + x2) < 9) (ga_ck (0 ≤ aw_w32 ((aw_w32 (3 * x1)) + x2) ∧ aw_w32 ((aw_w32 (3 * x1)) + x2) < 9) (ga_let (ga_set D 5189 (aw_w32 ((aw_w32 (3 * x1)) + x2)) (D 5178 (aw_w32 ((aw_w32 (3 * x1)) + x2)))) (fun D34 => ga_let (aw_w32 (x2 + 1)) (fun v35 => g_X50_reckonLoad_l7 n x1 v35 D34 k41))))))
    refine pr_ite (fun c12 => ?_) (fun c12 => ?_)
    exact hk41 _ 
    refine pr_ck (fun ha33 => ?_)
    refine pr_ck (fun ha34 => ?_)
    refine pr_upd (ga_Pn K_5189 rfl) (fun D34 => ?_)
    refine pr_let (fun v35 => ?_)
    exact ih _ _ _ 
theorem g_X50_reckonLoad_pr {x1 : Int} {D : ga_D} : ga_pr D (g_X50_reckonLoad x1 D) := by
  unfold g_X50_reckonLoad
  refine pr_bind (g_X50_prepare_pr) (fun r2 D2 => ?_)
  refine g_X50_reckonLoad_l7_pr (fun D41 => ?_) _ _ _ _ 
  refine pr_bind (g_X50_gatherAmount_pr) (fun r44 D44 => ?_)
  exact pr_some
theorem g_X50_load_pr {x1 x2 : Int} {D : ga_D} : ga_pr D (g_X50_load x1 x2 D) := by
  unfold g_X50_load
  refine pr_ite (fun c4 => ?_) (fun c4 => ?_)
  exact pr_some
  refine pr_ite (fun c8 => ?_) (fun c8 => ?_)
  exact pr_some
  refine pr_ck (fun ha17 => ?_)
  refine pr_ite (fun c18 => ?_) (fun c18 => ?_)
  exact pr_some
  refine pr_ite (fun c22 => ?_) (fun c22 => ?_)
  exact pr_some
  refine pr_ite (fun c28 => ?_) (fun c28 => ?_)
  refine pr_bind (g_X50_reckonLoad_pr) (fun r37 D37 => ?_)
  refine pr_bind (g_X50_partOf_pr) (fun r43 D43 => ?_)
  exact pr_some
  exact pr_some
theorem g_X50_span_pr {x1 x2 x4 : Int} {D : ga_D} : ga_pr D (g_X50_span x1 x2 x4 D) := by
  unfold g_X50_span
  refine pr_bind (g_X50_isMachine_pr) (fun r2 D2 => ?_)
  refine pr_ite (fun c5 => ?_) (fun c5 => ?_)
  exact pr_some
  refine pr_ite (fun c11 => ?_) (fun c11 => ?_)
  exact pr_some
  refine pr_ite (fun c18 => ?_) (fun c18 => ?_)
  exact pr_some
  refine pr_ite (fun c27 => ?_) (fun c27 => ?_)
  refine pr_ck (fun ha38 => ?_)
  refine pr_upd (ga_Pn K_5174 rfl) (fun D38 => ?_)
  refine pr_ck (fun ha45 => ?_)
  refine pr_upd (ga_Pn K_5175 rfl) (fun D45 => ?_)
  refine pr_ck (fun ha53 => ?_)
  refine pr_upd (ga_Pn K_5176 rfl) (fun D53 => ?_)
  exact pr_some
  exact pr_some
theorem g_X50_isOver_pr {x1 : Int} {D : ga_D} : ga_pr D (g_X50_isOver x1 D) := by
  unfold g_X50_isOver
  refine pr_ck (fun ha5 => ?_)
  refine pr_ite (fun c6 => ?_) (fun c6 => ?_)
  refine pr_bind (g_X50_reckonLoad_pr) (fun r13 D13 => ?_)
  refine pr_bind (g_X50_divide_pr) (fun r18 D18 => ?_)
  refine pr_ite (fun c26 => ?_) (fun c26 => ?_)
  exact pr_some
  refine pr_ck (fun ha35 => ?_)
  refine pr_ite (fun c37 => ?_) (fun c37 => ?_)
  exact pr_some
  refine pr_ck (fun ha46 => ?_)
  refine pr_ite (fun c48 => ?_) (fun c48 => ?_)
  exact pr_some
  refine pr_ck (fun ha57 => ?_)
  refine pr_ite (fun c59 => ?_) (fun c59 => ?_)
  exact pr_some
  refine pr_bind (g_X50_isZero_pr) (fun r64 D64 => ?_)
  refine pr_ite (fun c67 => ?_) (fun c67 => ?_)
  exact pr_some
  exact pr_some
  exact pr_some
theorem g_X50_over_l4_pr  {k34 : Int → ga_D → ga_S} {k45 : ga_D → ga_S} (hk34 : ∀ (x3 : Int) (D : ga_D), ga_pr D (k34 x3 D)) (hk45 : ∀ (D : ga_D), ga_pr D (k45 D)) : ∀ (n : Nat) (x1 x2 x3 : Int) (D : ga_D), ga_pr D (g_X50_over_l4 n x1 x2 x3 D k34 k45) := by
  intro n
  induction n with
  | zero => intro x1 x2 x3 D; exact pr_none
  | succ n ih =>
    intro x1 x2 x3 D
    show ga_pr D (ga_ck ((0 : Int) ≤ 1 ∧ 1 < 2) (if D 5164 1 ≤ x3 then (k45 D) else (if D 5163 14 = 0 then (k45 D) else (ga_bind (g_X50_isOver x3 D) (fun r23 D23 => if r23 = 0 then (ga_let (aw_w32 (x3 + 1)) (fun v39 => g_X50_over_l4 n x1 x2 v39 D23 k34 k45)) else (if x2 ≠ x1 then (ga_let (aw_w32 (x2 + 1)) (fun v36 => ga_let (aw_w32 (x3 + 1)) (fun v39 => g_X50_over_l4 n x1 v36 v39 D23 k34 k45))) else (k34 x3 D23)))))))
    refine pr_ck (fun ha10 => ?_)
    refine pr_ite (fun c11 => ?_) (fun c11 => ?_)
    exact hk45 _ 
    refine pr_ite (fun c18 => ?_) (fun c18 => ?_)
    exact hk45 _ 
    refine pr_bind (g_X50_isOver_pr) (fun r23 D23 => ?_)
    refine pr_ite (fun c26 => ?_) (fun c26 => ?_)
    refine pr_let (fun v39 => ?_)
    exact ih _ _ _ _ 
    refine pr_ite (fun c31 => ?_) (fun c31 => ?_)
    refine pr_let (fun v36 => ?_)
    refine pr_let (fun v39 => ?_)
    exact ih _ _ _ _ 
    exact hk34 _ _ 
theorem g_X50_over_pr {x1 : Int} {D : ga_D} : ga_pr D (g_X50_over x1 D) := by
  unfold g_X50_over
  refine g_X50_over_l4_pr (fun x3 D34 => ?_) (fun D45 => ?_) _ _ _ _ _ 
  exact pr_some
  exact pr_some
theorem g_X50_gatherWorth_l22_pr  {k71 : Int → Int → Int → Int → ga_D → ga_S} (hk71 : ∀ (x1 x2 x3 x6 : Int) (D : ga_D), ga_pr D (k71 x1 x2 x3 x6 D)) : ∀ (n : Nat) (x1 x2 x3 x4 x6 x8 : Int) (D : ga_D), ga_pr D (g_X50_gatherWorth_l22 n x1 x2 x3 x4 x6 x8 D k71) := by
  intro n
  induction n with
  | zero => intro x1 x2 x3 x4 x6 x8 D; exact pr_none
  | succ n ih =>
    intro x1 x2 x3 x4 x6 x8 D
    show ga_pr D (if 9 ≤ x8 then (k71 x1 x2 x3 x6 D) else (ga_ck (0 ≤ aw_w32 ((aw_w32 ((aw_w32 (81 * x3)) + (aw_w32 (9 * x8)))) + x1) ∧ aw_w32 ((aw_w32 ((aw_w32 (81 * x3)) + (aw_w32 (9 * x8)))) + x1) < 648) (ga_ck (0 ≤ x8 ∧ x8 < 9) (ga_ck (x4 ≠ 0) (ga_ck (x4 ≠ 0) (ga_let (Int.tmod (aw_w64 (x6 + (aw_w64 ((D 5184 (aw_w32 ((aw_w32 ((aw_w32 (81 * x3)) + (aw_w32 (9 * x8)))) + x1))) * (Int.tmod (D 5189 x8) x4))))) x4) (fun v63 => ga_let (aw_w32 (x8 + 1)) (fun v65 => g_X50_gatherWorth_l22 n x1 x2 x3 x4 v63 v65 D k71))))))))
    refine pr_ite (fun c26 => ?_) (fun c26 => ?_)
    exact hk71 _ _ _ _ _ 
    refine pr_ck (fun ha47 => ?_)
    refine pr_ck (fun ha54 => ?_)
    refine pr_ck (fun hz57 => ?_)
    refine pr_ck (fun hz62 => ?_)
    refine pr_let (fun v63 => ?_)
    refine pr_let (fun v65 => ?_)
    exact ih _ _ _ _ _ _ _ 
theorem g_X50_gatherWorth_l2_pr  {k85 : Int → ga_D → ga_S} (hk85 : ∀ (x2 : Int) (D : ga_D), ga_pr D (k85 x2 D)) : ∀ (n : Nat) (x1 x2 x3 : Int) (D : ga_D), ga_pr D (g_X50_gatherWorth_l2 n x1 x2 x3 D k85) := by
  intro n
  induction n with
  | zero => intro x1 x2 x3 D; exact pr_none
  | succ n ih =>
    intro x1 x2 x3 D
    show ga_pr D (if 8 ≤ x3 then (k85 x2 D) else (ga_ck (0 ≤ x3 ∧ x3 < 8) (ga_let (D 5177 x3) (fun v14 => g_X50_gatherWorth_l22 aw_fu x1 x2 x3 v14 0 0 D (fun x1 x2 x3 x6 D71 => ga_ck (0 ≤ x3 ∧ x3 < 8) (ga_let (ga_set D71 5187 x3 x6) (fun D78 => ga_let (aw_w32 (x3 + 1)) (fun v79 => g_X50_gatherWorth_l2 n x1 x2 v79 D78 k85))))))))
    refine pr_ite (fun c5 => ?_) (fun c5 => ?_)
    exact hk85 _ _ 
    refine pr_ck (fun ha13 => ?_)
    refine pr_let (fun v14 => ?_)
    refine g_X50_gatherWorth_l22_pr (fun x1 x2 x3 x6 D71 => ?_) _ _ _ _ _ _ _ _ 
    refine pr_ck (fun ha78 => ?_)
    refine pr_upd (ga_Pn K_5187 rfl) (fun D78 => ?_)
    refine pr_let (fun v79 => ?_)
    exact ih _ _ _ _ 
theorem g_X50_gatherWorth_pr {x1 x2 : Int} {D : ga_D} : ga_pr D (g_X50_gatherWorth x1 x2 D) := by
  unfold g_X50_gatherWorth
  refine g_X50_gatherWorth_l2_pr (fun x2 D85 => ?_) _ _ _ _ _ 
  refine pr_bind (g_X50_gather_pr) (fun r87 D87 => ?_)
  exact pr_some
theorem g_X50_gatherOut_pr {x1 x2 x3 x4 x5 : Int} {D : ga_D} : ga_pr D (g_X50_gatherOut x1 x2 x3 x4 x5 D) := by
  unfold g_X50_gatherOut
  refine pr_ck (fun ha9 => ?_)
  refine pr_let (fun v10 => ?_)
  refine pr_ite (fun c14 => ?_) (fun c14 => ?_)
  refine pr_ite (fun c39 => ?_) (fun c39 => ?_)
  refine pr_bind (g_X50_clear_pr) (fun r54 D54 => ?_)
  exact pr_some
  refine pr_bind (g_X50_gatherOver_pr) (fun r45 D45 => ?_)
  exact pr_some
  refine pr_bind (g_X50_gatherWorth_pr) (fun r26 D26 => ?_)
  exact pr_some
theorem g_X50_isLess_l3_pr  {k33 : Int → Int → Int → ga_D → ga_S} {k71 : ga_D → ga_S} (hk33 : ∀ (x1 x2 x3 : Int) (D : ga_D), ga_pr D (k33 x1 x2 x3 D)) (hk71 : ∀ (D : ga_D), ga_pr D (k71 D)) : ∀ (n : Nat) (x1 x2 x3 : Int) (D : ga_D), ga_pr D (g_X50_isLess_l3 n x1 x2 x3 D k33 k71) := by
  intro n
  induction n with
  | zero => intro x1 x2 x3 D; exact pr_none
  | succ n ih =>
    intro x1 x2 x3 D
    show ga_pr D (if x3 < 0 then (k71 D) else (ga_ck (0 ≤ aw_w32 ((aw_w32 (24 * x1)) + x3) ∧ aw_w32 ((aw_w32 (24 * x1)) + x3) < 144) (ga_ck (0 ≤ aw_w32 ((aw_w32 (24 * x2)) + x3) ∧ aw_w32 ((aw_w32 (24 * x2)) + x3) < 144) (if D 5186 (aw_w32 ((aw_w32 (24 * x1)) + x3)) = D 5186 (aw_w32 ((aw_w32 (24 * x2)) + x3)) then (ga_let (aw_w32 (x3 + (-1))) (fun v65 => g_X50_isLess_l3 n x1 x2 v65 D k33 k71)) else (k33 x1 x2 x3 D)))))
    refine pr_ite (fun c4 => ?_) (fun c4 => ?_)
    exact hk71 _ 
    refine pr_ck (fun ha17 => ?_)
    refine pr_ck (fun ha28 => ?_)
    refine pr_ite (fun c30 => ?_) (fun c30 => ?_)
    refine pr_let (fun v65 => ?_)
    exact ih _ _ _ _ 
    exact hk33 _ _ _ _ 
theorem g_X50_isLess_pr {x1 x2 : Int} {D : ga_D} : ga_pr D (g_X50_isLess x1 x2 D) := by
  unfold g_X50_isLess
  refine g_X50_isLess_l3_pr (fun x1 x2 x3 D33 => ?_) (fun D71 => ?_) _ _ _ _ _ 
  refine pr_ck (fun ha43 => ?_)
  refine pr_ck (fun ha54 => ?_)
  refine pr_ite (fun c56 => ?_) (fun c56 => ?_)
  exact pr_some
  exact pr_some
  exact pr_some
theorem g_X50_multiply_2_l21_pr  {k128 : Int → Int → Int → Int → ga_D → ga_S} (hk128 : ∀ (x1 x2 x3 x4 : Int) (D : ga_D), ga_pr D (k128 x1 x2 x3 x4 D)) : ∀ (n : Nat) (x1 x2 x3 x4 x5 x7 : Int) (D : ga_D), ga_pr D (g_X50_multiply_2_l21 n x1 x2 x3 x4 x5 x7 D k128) := by
  intro n
  induction n with
  | zero => intro x1 x2 x3 x4 x5 x7 D; exact pr_none
  | succ n ih =>
    intro x1 x2 x3 x4 x5 x7 D
    show ga_pr D (if 24 ≤ aw_w32 (x4 + x7) then (k128 x1 x2 x3 x4 D) else (ga_ck (0 ≤ aw_w32 ((aw_w32 (24 * x1)) + x4) ∧ aw_w32 ((aw_w32 (24 * x1)) + x4) < 144) (if D 5186 (aw_w32 ((aw_w32 (24 * x1)) + x4)) ≤ 0 then (k128 x1 x2 x3 x4 D) else (ga_ck (0 ≤ aw_w32 ((aw_w32 ((aw_w32 (24 * x3)) + x4)) + x7) ∧ aw_w32 ((aw_w32 ((aw_w32 (24 * x3)) + x4)) + x7) < 144) (ga_ck (0 ≤ aw_w32 ((aw_w32 (24 * x1)) + x4) ∧ aw_w32 ((aw_w32 (24 * x1)) + x4) < 144) (ga_ck (0 ≤ aw_w32 ((aw_w32 (24 * x2)) + x7) ∧ aw_w32 ((aw_w32 (24 * x2)) + x7) < 144) (ga_let (aw_w64 ((aw_w64 ((D 5186 (aw_w32 ((aw_w32 ((aw_w32 (24 * x3)) + x4)) + x7))) + (aw_w64 ((D 5186 (aw_w32 ((aw_w32 (24 * x1)) + x4))) * (D 5186 (aw_w32 ((aw_w32 (24 * x2)) + x7))))))) + x5)) (fun v92 => ga_ck (0 ≤ aw_w32 ((aw_w32 ((aw_w32 (24 * x3)) + x4)) + x7) ∧ aw_w32 ((aw_w32 ((aw_w32 (24 * x3)) + x4)) + x7) < 144) (ga_let (ga_set D 5186 (aw_w32 ((aw_w32 ((aw_w32 (24 * x3)) + x4)) + x7)) (aw_land v92 268435455)) (fun D114 => ga_let (aw_lshr v92 28) (fun v120 => ga_let (aw_w32 (x7 + 1)) (fun v122 => g_X50_multiply_2_l21 n x1 x2 x3 x4 v120 v122 D114 k128))))))))))))
    refine pr_ite (fun c28 => ?_) (fun c28 => ?_)
    exact hk128 _ _ _ _ _ 
    refine pr_ck (fun ha42 => ?_)
    refine pr_ite (fun c45 => ?_) (fun c45 => ?_)
    exact hk128 _ _ _ _ _ 
    refine pr_ck (fun ha62 => ?_)
    refine pr_ck (fun ha74 => ?_)
    refine pr_ck (fun ha86 => ?_)
    refine pr_let (fun v92 => ?_)
    refine pr_ck (fun ha114 => ?_)
    refine pr_upd (ga_Pn K_5186 rfl) (fun D114 => ?_)
    refine pr_let (fun v120 => ?_)
    refine pr_let (fun v122 => ?_)
    exact ih _ _ _ _ _ _ _ 
theorem g_X50_multiply_2_l8_pr  {k134 : ga_D → ga_S} (hk134 : ∀ (D : ga_D), ga_pr D (k134 D)) : ∀ (n : Nat) (x1 x2 x3 x4 : Int) (D : ga_D), ga_pr D (g_X50_multiply_2_l8 n x1 x2 x3 x4 D k134) := by
  intro n
  induction n with
  | zero => intro x1 x2 x3 x4 D; exact pr_none
  | succ n ih =>
    intro x1 x2 x3 x4 D
    show ga_pr D (if 24 ≤ x4 then (k134 D) else (g_X50_multiply_2_l21 aw_fu x1 x2 x3 x4 0 0 D (fun x1 x2 x3 x4 D128 => ga_let (aw_w32 (x4 + 1)) (fun v128 => g_X50_multiply_2_l8 n x1 x2 x3 v128 D128 k134))))
    refine pr_ite (fun c12 => ?_) (fun c12 => ?_)
    exact hk134 _ 
    refine g_X50_multiply_2_l21_pr (fun x1 x2 x3 x4 D128 => ?_) _ _ _ _ _ _ _ _ 
    refine pr_let (fun v128 => ?_)
    exact ih _ _ _ _ _ 
theorem g_X50_multiply_2_pr {x1 x2 x3 : Int} {D : ga_D} : ga_pr D (g_X50_multiply_2 x1 x2 x3 D) := by
  unfold g_X50_multiply_2
  refine pr_bind (g_X50_clear_pr) (fun r2 D2 => ?_)
  refine g_X50_multiply_2_l8_pr (fun D134 => ?_) _ _ _ _ _ _ 
  exact pr_some
theorem g_X50_slope_l87_pr  {k131 : Int → Int → Int → Int → Int → Int → ga_D → ga_S} (hk131 : ∀ (x1 x2 x3 x4 x5 x6 : Int) (D : ga_D), ga_pr D (k131 x1 x2 x3 x4 x5 x6 D)) : ∀ (n : Nat) (x1 x2 x3 x4 x5 x6 x7 x8 : Int) (D : ga_D), ga_pr D (g_X50_slope_l87 n x1 x2 x3 x4 x5 x6 x7 x8 D k131) := by
  intro n
  induction n with
  | zero => intro x1 x2 x3 x4 x5 x6 x7 x8 D; exact pr_none
  | succ n ih =>
    intro x1 x2 x3 x4 x5 x6 x7 x8 D
    show ga_pr D (ga_ck (0 ≤ x1 ∧ x1 < 6) (if D 5166 x1 ≤ x8 then (k131 x1 x2 x3 x4 x5 x6 D) else (ga_ck (0 ≤ x7 ∧ x7 < 9) (ga_ck (0 ≤ aw_w32 ((aw_w32 (9 * (aw_w32 ((aw_w32 (3 * x8)) + x2)))) + x7) ∧ aw_w32 ((aw_w32 (9 * (aw_w32 ((aw_w32 (3 * x8)) + x2)))) + x7) < 81) (ga_ck (0 ≤ x7 ∧ x7 < 9) (ga_let (ga_set D 5189 x7 (aw_w64 ((D 5189 x7) + (D 5180 (aw_w32 ((aw_w32 (9 * (aw_w32 ((aw_w32 (3 * x8)) + x2)))) + x7)))))) (fun D124 => ga_let (aw_w32 (x8 + 1)) (fun v125 => g_X50_slope_l87 n x1 x2 x3 x4 x5 x6 x7 v125 D124 k131))))))))
    refine pr_ck (fun ha94 => ?_)
    refine pr_ite (fun c95 => ?_) (fun c95 => ?_)
    exact hk131 _ _ _ _ _ _ _ 
    refine pr_ck (fun ha105 => ?_)
    refine pr_ck (fun ha122 => ?_)
    refine pr_ck (fun ha124 => ?_)
    refine pr_upd (ga_Pn K_5189 rfl) (fun D124 => ?_)
    refine pr_let (fun v125 => ?_)
    exact ih _ _ _ _ _ _ _ _ _ 
theorem g_X50_slope_l67_pr  {k137 : Int → Int → Int → Int → Int → ga_D → ga_S} (hk137 : ∀ (x1 x2 x3 x4 x5 : Int) (D : ga_D), ga_pr D (k137 x1 x2 x3 x4 x5 D)) : ∀ (n : Nat) (x1 x2 x3 x4 x5 x6 : Int) (D : ga_D), ga_pr D (g_X50_slope_l67 n x1 x2 x3 x4 x5 x6 D k137) := by
  intro n
  induction n with
  | zero => intro x1 x2 x3 x4 x5 x6 D; exact pr_none
  | succ n ih =>
    intro x1 x2 x3 x4 x5 x6 D
    show ga_pr D (if D 5163 0 ≤ x6 then (k137 x1 x2 x3 x4 x5 D) else (ga_let (aw_w32 ((aw_w32 (3 * x1)) + x6)) (fun v82 => g_X50_slope_l87 aw_fu x1 x2 x3 x4 x5 x6 v82 0 D (fun x1 x2 x3 x4 x5 x6 D131 => ga_let (aw_w32 (x6 + 1)) (fun v131 => g_X50_slope_l67 n x1 x2 x3 x4 x5 v131 D131 k137)))))
    refine pr_ite (fun c73 => ?_) (fun c73 => ?_)
    exact hk137 _ _ _ _ _ _ 
    refine pr_let (fun v82 => ?_)
    refine g_X50_slope_l87_pr (fun x1 x2 x3 x4 x5 x6 D131 => ?_) _ _ _ _ _ _ _ _ _ _ 
    refine pr_let (fun v131 => ?_)
    exact ih _ _ _ _ _ _ _ 
theorem g_X50_slope_j216_pr  (x5 x6 : Int) (D : ga_D) : ga_pr D (g_X50_slope_j216 x5 x6 D) := by
  unfold g_X50_slope_j216
  refine pr_bind (g_X50_multiply_2_pr) (fun r220 D220 => ?_)
  refine pr_bind (g_X50_copy_pr) (fun r226 D226 => ?_)
  refine pr_bind (g_X50_multiply_2_pr) (fun r233 D233 => ?_)
  refine pr_bind (g_X50_partOf_pr) (fun r241 D241 => ?_)
  exact pr_some
theorem g_X50_slope_pr {x1 x2 x3 x4 x5 : Int} {D : ga_D} : ga_pr D (g_X50_slope x1 x2 x3 x4 x5 D) := by
  unfold g_X50_slope
  refine pr_bind (g_X50_isFree_pr) (fun r4 D4 => ?_)
  refine pr_ite (fun c7 => ?_) (fun c7 => ?_)
  exact pr_some
  refine pr_ite (fun c12 => ?_) (fun c12 => ?_)
  exact pr_some
  refine pr_ck (fun ha22 => ?_)
  refine pr_ite (fun c23 => ?_) (fun c23 => ?_)
  exact pr_some
  refine pr_ite (fun c28 => ?_) (fun c28 => ?_)
  exact pr_some
  refine pr_ite (fun c35 => ?_) (fun c35 => ?_)
  refine pr_bind (g_X50_layOut_pr) (fun r44 D44 => ?_)
  refine pr_bind (g_X50_stuck_pr) (fun r49 D49 => ?_)
  refine pr_ite (fun c52 => ?_) (fun c52 => ?_)
  refine pr_bind (g_X50_prepare_pr) (fun r61 D61 => ?_)
  refine g_X50_slope_l67_pr (fun x1 x2 x3 x4 x5 D137 => ?_) _ _ _ _ _ _ _ _ 
  refine pr_bind (g_X50_gatherAmount_pr) (fun r140 D140 => ?_)
  refine pr_bind (g_X50_clearWeights_pr) (fun r144 D144 => ?_)
  refine pr_bind (g_X50_weighPort_pr) (fun r152 D152 => ?_)
  refine pr_bind (g_X50_gatherOut_pr) (fun r162 D162 => ?_)
  refine pr_ck (fun ha173 => ?_)
  refine pr_bind (g_X50_gatherOut_pr) (fun r179 D179 => ?_)
  refine pr_bind (g_X50_isLess_pr) (fun r185 D185 => ?_)
  refine pr_ite (fun c192 => ?_) (fun c192 => ?_)
  refine pr_bind (g_X50_lessen_pr) (fun r213 D213 => ?_)
  refine g_X50_slope_j216_pr _ _ _ 
  refine pr_bind (g_X50_lessen_pr) (fun r198 D198 => ?_)
  refine pr_bind (g_X50_copy_pr) (fun r204 D204 => ?_)
  refine g_X50_slope_j216_pr _ _ _ 
  exact pr_some
  exact pr_some
theorem g_X50_purity_pr {x1 x2 x3 : Int} {D : ga_D} : ga_pr D (g_X50_purity x1 x2 x3 D) := by
  unfold g_X50_purity
  refine pr_ite (fun c4 => ?_) (fun c4 => ?_)
  exact pr_some
  refine pr_ite (fun c8 => ?_) (fun c8 => ?_)
  exact pr_some
  refine pr_ck (fun ha17 => ?_)
  refine pr_ite (fun c18 => ?_) (fun c18 => ?_)
  exact pr_some
  refine pr_bind (g_X50_isKind_pr) (fun r23 D23 => ?_)
  refine pr_ite (fun c26 => ?_) (fun c26 => ?_)
  exact pr_some
  refine pr_ite (fun c30 => ?_) (fun c30 => ?_)
  exact pr_some
  refine pr_ite (fun c36 => ?_) (fun c36 => ?_)
  refine pr_bind (g_X50_prepare_pr) (fun r45 D45 => ?_)
  refine pr_bind (g_X50_weighPort_pr) (fun r52 D52 => ?_)
  refine pr_bind (g_X50_gatherAmount_pr) (fun r58 D58 => ?_)
  refine pr_bind (g_X50_clearWeights_pr) (fun r62 D62 => ?_)
  refine pr_bind (g_X50_weighPort_pr) (fun r69 D69 => ?_)
  refine pr_bind (g_X50_gatherAmount_pr) (fun r75 D75 => ?_)
  refine pr_bind (g_X50_isZero_pr) (fun r80 D80 => ?_)
  refine pr_ite (fun c83 => ?_) (fun c83 => ?_)
  refine pr_bind (g_X50_partOf_pr) (fun r95 D95 => ?_)
  exact pr_some
  exact pr_some
  exact pr_some
theorem g_X50_change_pr {x1 x2 x3 x4 x6 : Int} {D : ga_D} : ga_pr D (g_X50_change x1 x2 x3 x4 x6 D) := by
  unfold g_X50_change
  refine pr_bind (g_X50_share_pr) (fun r8 D8 => ?_)
  refine pr_ite (fun c11 => ?_) (fun c11 => ?_)
  refine pr_bind (g_X50_solve_pr) (fun r17 D17 => ?_)
  refine pr_ite (fun c24 => ?_) (fun c24 => ?_)
  exact pr_some
  exact pr_some
  exact pr_some
theorem g_X50_brings_pr {x1 x2 : Int} {D : ga_D} : ga_pr D (g_X50_brings x1 x2 D) := by
  unfold g_X50_brings
  refine pr_bind (g_X50_layOut_pr) (fun r2 D2 => ?_)
  refine pr_bind (g_X50_stuck_pr) (fun r7 D7 => ?_)
  refine pr_ite (fun c10 => ?_) (fun c10 => ?_)
  refine pr_bind (g_X50_prepare_pr) (fun r17 D17 => ?_)
  refine pr_bind (g_X50_weighPort_pr) (fun r24 D24 => ?_)
  refine pr_bind (g_X50_gatherAmount_pr) (fun r30 D30 => ?_)
  refine pr_bind (g_X50_divide_pr) (fun r35 D35 => ?_)
  refine pr_ite (fun c40 => ?_) (fun c40 => ?_)
  exact pr_some
  exact pr_some
  exact pr_some
theorem g_X50_find_l81_pr  {k141 : Int → ga_D → ga_S} {k165 : Int → Int → Int → ga_D → ga_S} (hk141 : ∀ (x8 : Int) (D : ga_D), ga_pr D (k141 x8 D)) (hk165 : ∀ (x5 x6 x7 : Int) (D : ga_D), ga_pr D (k165 x5 x6 x7 D)) : ∀ (n : Nat) (x1 x2 x3 x5 x6 x7 x8 : Int) (D : ga_D), ga_pr D (g_X50_find_l81 n x1 x2 x3 x5 x6 x7 x8 D k141 k165) := by
  intro n
  induction n with
  | zero => intro x1 x2 x3 x5 x6 x7 x8 D; exact pr_none
  | succ n ih =>
    intro x1 x2 x3 x5 x6 x7 x8 D
    show ga_pr D (if 12 < x8 then (k165 x5 x6 x7 D) else (ga_bind (g_X50_fits x1 x2 0 x8 12 D) (fun r98 D98 => if r98 = 0 then (ga_let (aw_w32 (x8 + 1)) (fun v159 => g_X50_find_l81 n x1 x2 x3 x5 x6 x7 v159 D98 k141 k165)) else (ga_ck (0 ≤ x5 ∧ x5 < 36) (ga_let (ga_set D98 5168 x5 x8) (fun D112 => ga_ck (0 ≤ x5 ∧ x5 < 36) (ga_let (ga_set D112 5169 x5 12) (fun D121 => ga_ck ((0 : Int) ≤ 0 ∧ 0 < 2) (ga_ck ((0 : Int) ≤ 0 ∧ 0 < 2) (ga_let (ga_set D121 5190 0 (aw_w32 ((D121 5190 0) + 1))) (fun D131 => ga_bind (g_X50_brings x2 x3 D131) (fun r135 D135 => if r135 = 0 then (ga_let (aw_w32 (x8 + 1)) (fun v159 => g_X50_find_l81 n x1 x2 x3 x5 x6 x7 v159 D135 k141 k165)) else (k141 x8 D135)))))))))))))
    refine pr_ite (fun c85 => ?_) (fun c85 => ?_)
    exact hk165 _ _ _ _ 
    refine pr_bind (g_X50_fits_pr) (fun r98 D98 => ?_)
    refine pr_ite (fun c101 => ?_) (fun c101 => ?_)
    refine pr_let (fun v159 => ?_)
    exact ih _ _ _ _ _ _ _ _ 
    refine pr_ck (fun ha112 => ?_)
    refine pr_upd (ga_Pn K_5168 rfl) (fun D112 => ?_)
    refine pr_ck (fun ha121 => ?_)
    refine pr_upd (ga_Pn K_5169 rfl) (fun D121 => ?_)
    refine pr_ck (fun ha128 => ?_)
    refine pr_ck (fun ha131 => ?_)
    refine pr_upd (ga_Pn K_5190 rfl) (fun D131 => ?_)
    refine pr_bind (g_X50_brings_pr) (fun r135 D135 => ?_)
    refine pr_ite (fun c138 => ?_) (fun c138 => ?_)
    refine pr_let (fun v159 => ?_)
    exact ih _ _ _ _ _ _ _ _ 
    exact hk141 _ _ 
theorem g_X50_find_pr {x1 x2 x3 : Int} {D : ga_D} : ga_pr D (g_X50_find x1 x2 x3 D) := by
  unfold g_X50_find
  refine pr_bind (g_X50_isMachine_pr) (fun r2 D2 => ?_)
  refine pr_ite (fun c5 => ?_) (fun c5 => ?_)
  exact pr_some
  refine pr_bind (g_X50_isKind_pr) (fun r10 D10 => ?_)
  refine pr_ite (fun c13 => ?_) (fun c13 => ?_)
  exact pr_some
  refine pr_ite (fun c19 => ?_) (fun c19 => ?_)
  exact pr_some
  refine pr_ite (fun c27 => ?_) (fun c27 => ?_)
  exact pr_some
  refine pr_ck (fun ha35 => ?_)
  refine pr_ite (fun c37 => ?_) (fun c37 => ?_)
  exact pr_some
  refine pr_ck (fun ha45 => ?_)
  refine pr_ite (fun c46 => ?_) (fun c46 => ?_)
  refine pr_let (fun v58 => ?_)
  refine pr_ck (fun ha66 => ?_)
  refine pr_let (fun v67 => ?_)
  refine pr_ck (fun ha75 => ?_)
  refine pr_let (fun v76 => ?_)
  refine g_X50_find_l81_pr (fun x8 D141 => ?_) (fun x5 x6 x7 D165 => ?_) _ _ _ _ _ _ _ _ _ 
  refine pr_bind (g_X50_solve_pr) (fun r142 D142 => ?_)
  refine pr_ite (fun c149 => ?_) (fun c149 => ?_)
  exact pr_some
  exact pr_some
  refine pr_ck (fun ha173 => ?_)
  refine pr_upd (ga_Pn K_5168 rfl) (fun D173 => ?_)
  refine pr_ck (fun ha182 => ?_)
  refine pr_upd (ga_Pn K_5169 rfl) (fun D182 => ?_)
  refine pr_ck (fun ha189 => ?_)
  refine pr_ck (fun ha192 => ?_)
  refine pr_upd (ga_Pn K_5190 rfl) (fun D192 => ?_)
  exact pr_some
  exact pr_some
theorem g_X50_kept_pr {D : ga_D} : ga_pr D (g_X50_kept D) := by
  unfold g_X50_kept
  refine pr_ck (fun hr4 => ?_)
  exact pr_some
