theorem g_J20_isLatin1_pr {x0 : Int} {D : ga_D} : ga_pr D (g_J20_isLatin1 x0 D) := by
  unfold g_J20_isLatin1
  refine pr_ite (fun c3 => ?_) (fun c3 => ?_)
  exact pr_some
  refine pr_ck (fun hk7_0 => ?_)
  refine pr_ite (fun c10 => ?_) (fun c10 => ?_)
  exact pr_some
  exact pr_some
theorem g_J21_length_pr {x0 : Int} {D : ga_D} : ga_pr D (g_J21_length x0 D) := by
  unfold g_J21_length
  refine pr_ck (fun ha1_0 => ?_)
  exact pr_some
theorem g_J21_getChar_j28_pr  (x0 x1 : Int) (D : ga_D) : ga_pr D (g_J21_getChar_j28 x0 x1 D) := by
  unfold g_J21_getChar_j28
  refine pr_let (fun v31 => ?_)
  refine pr_let (fun v34 => ?_)
  refine pr_ck (fun ha37_0 => ?_)
  refine pr_ck (fun ha37 => ?_)
  refine pr_ck (fun ha48 => ?_)
  refine pr_ck (fun hr59 => ?_)
  exact pr_some
theorem g_J21_getChar_j18_pr  (D : ga_D) : ga_pr D (g_J21_getChar_j18 D) := by
  unfold g_J21_getChar_j18
  exact pr_none
theorem g_J21_getChar_pr {x0 x1 : Int} {D : ga_D} : ga_pr D (g_J21_getChar x0 x1 D) := by
  unfold g_J21_getChar
  refine pr_ite (fun c3 => ?_) (fun c3 => ?_)
  refine g_J21_getChar_j28_pr _ _ _ 
  refine pr_ite (fun c7 => ?_) (fun c7 => ?_)
  refine g_J21_getChar_j18_pr _ 
  refine pr_bind (g_J21_length_pr) (fun r12 D12 => ?_)
  refine pr_ite (fun c15 => ?_) (fun c15 => ?_)
  refine g_J21_getChar_j28_pr _ _ _ 
  refine g_J21_getChar_j18_pr _ 
theorem g_J20_coder_pr {x0 : Int} {D : ga_D} : ga_pr D (g_J20_coder x0 D) := by
  unfold g_J20_coder
  refine pr_ite (fun c3 => ?_) (fun c3 => ?_)
  exact pr_some
  refine pr_ck (fun hk7_0 => ?_)
  refine pr_ck (fun hr14 => ?_)
  exact pr_some
theorem g_J20_length_pr {x0 : Int} {D : ga_D} : ga_pr D (g_J20_length x0 D) := by
  unfold g_J20_length
  refine pr_ck (fun hk1_0 => ?_)
  refine pr_ck (fun ha4_1 => ?_)
  refine pr_bind (g_J20_coder_pr) (fun r6 D6 => ?_)
  exact pr_some
theorem g_J25_numberOfLeadingZeros_j61_pr  (x0 x1 : Int) (D : ga_D) : ga_pr D (g_J25_numberOfLeadingZeros_j61 x0 x1 D) := by
  unfold g_J25_numberOfLeadingZeros_j61
  refine pr_ite (fun c63 => ?_) (fun c63 => ?_)
  exact pr_some
  refine pr_let (fun v66 => ?_)
  refine pr_let (fun v72 => ?_)
  exact pr_some
theorem g_J25_numberOfLeadingZeros_j48_pr  (x0 x1 : Int) (D : ga_D) : ga_pr D (g_J25_numberOfLeadingZeros_j48 x0 x1 D) := by
  unfold g_J25_numberOfLeadingZeros_j48
  refine pr_ite (fun c51 => ?_) (fun c51 => ?_)
  refine g_J25_numberOfLeadingZeros_j61_pr _ _ _ 
  refine pr_let (fun v54 => ?_)
  refine pr_let (fun v60 => ?_)
  refine g_J25_numberOfLeadingZeros_j61_pr _ _ _ 
theorem g_J25_numberOfLeadingZeros_j33_pr  (x0 x1 : Int) (D : ga_D) : ga_pr D (g_J25_numberOfLeadingZeros_j33 x0 x1 D) := by
  unfold g_J25_numberOfLeadingZeros_j33
  refine pr_ite (fun c37 => ?_) (fun c37 => ?_)
  refine g_J25_numberOfLeadingZeros_j48_pr _ _ _ 
  refine pr_let (fun v40 => ?_)
  refine pr_let (fun v47 => ?_)
  refine g_J25_numberOfLeadingZeros_j48_pr _ _ _ 
theorem g_J25_numberOfLeadingZeros_pr {x0 : Int} {D : ga_D} : ga_pr D (g_J25_numberOfLeadingZeros x0 D) := by
  unfold g_J25_numberOfLeadingZeros
  refine pr_ite (fun c1 => ?_) (fun c1 => ?_)
  refine pr_ite (fun c22 => ?_) (fun c22 => ?_)
  refine g_J25_numberOfLeadingZeros_j33_pr _ _ _ 
  refine pr_let (fun v25 => ?_)
  refine pr_let (fun v32 => ?_)
  refine g_J25_numberOfLeadingZeros_j33_pr _ _ _ 
  refine pr_ite (fun c5 => ?_) (fun c5 => ?_)
  exact pr_some
  exact pr_some
theorem g_J25_numberOfTrailingZeros_j62_pr  (x0 x1 : Int) (D : ga_D) : ga_pr D (g_J25_numberOfTrailingZeros_j62 x0 x1 D) := by
  unfold g_J25_numberOfTrailingZeros_j62
  refine pr_ite (fun c64 => ?_) (fun c64 => ?_)
  exact pr_some
  refine pr_let (fun v67 => ?_)
  refine pr_let (fun v73 => ?_)
  exact pr_some
theorem g_J25_numberOfTrailingZeros_j49_pr  (x0 x1 : Int) (D : ga_D) : ga_pr D (g_J25_numberOfTrailingZeros_j49 x0 x1 D) := by
  unfold g_J25_numberOfTrailingZeros_j49
  refine pr_ite (fun c52 => ?_) (fun c52 => ?_)
  refine g_J25_numberOfTrailingZeros_j62_pr _ _ _ 
  refine pr_let (fun v55 => ?_)
  refine pr_let (fun v61 => ?_)
  refine g_J25_numberOfTrailingZeros_j62_pr _ _ _ 
theorem g_J25_numberOfTrailingZeros_j34_pr  (x0 x1 : Int) (D : ga_D) : ga_pr D (g_J25_numberOfTrailingZeros_j34 x0 x1 D) := by
  unfold g_J25_numberOfTrailingZeros_j34
  refine pr_ite (fun c38 => ?_) (fun c38 => ?_)
  refine g_J25_numberOfTrailingZeros_j49_pr _ _ _ 
  refine pr_let (fun v41 => ?_)
  refine pr_let (fun v48 => ?_)
  refine g_J25_numberOfTrailingZeros_j49_pr _ _ _ 
theorem g_J25_numberOfTrailingZeros_pr {x0 : Int} {D : ga_D} : ga_pr D (g_J25_numberOfTrailingZeros x0 D) := by
  unfold g_J25_numberOfTrailingZeros
  refine pr_let (fun v7 => ?_)
  refine pr_ite (fun c9 => ?_) (fun c9 => ?_)
  refine pr_ite (fun c23 => ?_) (fun c23 => ?_)
  refine g_J25_numberOfTrailingZeros_j34_pr _ _ _ 
  refine pr_let (fun v26 => ?_)
  refine pr_let (fun v33 => ?_)
  refine g_J25_numberOfTrailingZeros_j34_pr _ _ _ 
  exact pr_some
theorem g_J23_checkIndex_j9_pr  (x0 x1 x2 : Int) (D : ga_D) : ga_pr D (g_J23_checkIndex_j9 x0 x1 x2 D) := by
  unfold g_J23_checkIndex_j9
  exact pr_none
theorem g_J23_checkIndex_pr {x0 x1 x2 : Int} {D : ga_D} : ga_pr D (g_J23_checkIndex x0 x1 x2 D) := by
  unfold g_J23_checkIndex
  refine pr_ite (fun c1 => ?_) (fun c1 => ?_)
  refine g_J23_checkIndex_j9_pr _ _ _ _ 
  refine pr_ite (fun c6 => ?_) (fun c6 => ?_)
  exact pr_some
  refine g_J23_checkIndex_j9_pr _ _ _ _ 
theorem g_J20_checkIndex_pr {x0 x1 : Int} {D : ga_D} : ga_pr D (g_J20_checkIndex x0 x1 D) := by
  unfold g_J20_checkIndex
  refine pr_bind (g_J23_checkIndex_pr) (fun r5 D5 => ?_)
  exact pr_some
theorem g_J21_checkIndex_pr {x0 x1 : Int} {D : ga_D} : ga_pr D (g_J21_checkIndex x0 x1 D) := by
  unfold g_J21_checkIndex
  refine pr_bind (g_J21_length_pr) (fun r2 D2 => ?_)
  refine pr_bind (g_J20_checkIndex_pr) (fun r5 D5 => ?_)
  exact pr_some
theorem g_J22_charAt_pr {x0 x1 : Int} {D : ga_D} : ga_pr D (g_J22_charAt x0 x1 D) := by
  unfold g_J22_charAt
  refine pr_ck (fun ha2_0 => ?_)
  refine pr_bind (g_J20_checkIndex_pr) (fun r3 D3 => ?_)
  refine pr_ck (fun ha8 => ?_)
  refine pr_ck (fun hr14 => ?_)
  exact pr_some
theorem g_J21_charAt_pr {x0 x1 : Int} {D : ga_D} : ga_pr D (g_J21_charAt x0 x1 D) := by
  unfold g_J21_charAt
  refine pr_bind (g_J21_checkIndex_pr) (fun r2 D2 => ?_)
  refine pr_bind (g_J21_getChar_pr) (fun r7 D7 => ?_)
  refine pr_ck (fun hr10 => ?_)
  exact pr_some
theorem g_J20_charAt_pr {x0 x1 : Int} {D : ga_D} : ga_pr D (g_J20_charAt x0 x1 D) := by
  unfold g_J20_charAt
  refine pr_bind (g_J20_isLatin1_pr) (fun r1 D1 => ?_)
  refine pr_ck (fun hk1_0 => ?_)
  refine pr_ite (fun c4 => ?_) (fun c4 => ?_)
  refine pr_bind (g_J21_charAt_pr) (fun r21 D21 => ?_)
  refine pr_ck (fun hr24 => ?_)
  exact pr_some
  refine pr_bind (g_J22_charAt_pr) (fun r12 D12 => ?_)
  refine pr_ck (fun hr15 => ?_)
  exact pr_some
theorem g_J25_rotateRight_pr {x0 x1 : Int} {D : ga_D} : ga_pr D (g_J25_rotateRight x0 x1 D) := by
  unfold g_J25_rotateRight
  exact pr_some
theorem g_J25_bitCount_pr {x0 : Int} {D : ga_D} : ga_pr D (g_J25_bitCount x0 D) := by
  unfold g_J25_bitCount
  refine pr_let (fun v9 => ?_)
  refine pr_let (fun v23 => ?_)
  refine pr_let (fun v33 => ?_)
  refine pr_let (fun v40 => ?_)
  refine pr_let (fun v47 => ?_)
  exact pr_some
theorem g_J30_signum_pr {x0 : Int} {D : ga_D} : ga_pr D (g_J30_signum x0 D) := by
  unfold g_J30_signum
  exact pr_some
