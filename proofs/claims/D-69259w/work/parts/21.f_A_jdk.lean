theorem g_J20_isLatin1_fr {lo hi : Int} {x0 : Int} {D : ga_D} : ga_fr lo hi D (g_J20_isLatin1 x0 D) := by
  unfold g_J20_isLatin1
  refine fr_ite (fun c3 => ?_) (fun c3 => ?_)
  exact fr_some
  refine fr_ck (fun hk7_0 => ?_)
  refine fr_ite (fun c10 => ?_) (fun c10 => ?_)
  exact fr_some
  exact fr_some
theorem g_J21_length_fr {lo hi : Int} {x0 : Int} {D : ga_D} : ga_fr lo hi D (g_J21_length x0 D) := by
  unfold g_J21_length
  refine fr_ck (fun ha1_0 => ?_)
  exact fr_some
theorem g_J21_getChar_j28_fr {lo hi : Int}  (x0 x1 : Int) (D : ga_D) : ga_fr lo hi D (g_J21_getChar_j28 x0 x1 D) := by
  unfold g_J21_getChar_j28
  refine fr_let (fun v31 => ?_)
  refine fr_let (fun v34 => ?_)
  refine fr_ck (fun ha37_0 => ?_)
  refine fr_ck (fun ha37 => ?_)
  refine fr_ck (fun ha48 => ?_)
  refine fr_ck (fun hr59 => ?_)
  exact fr_some
theorem g_J21_getChar_j18_fr {lo hi : Int}  (D : ga_D) : ga_fr lo hi D (g_J21_getChar_j18 D) := by
  unfold g_J21_getChar_j18
  exact fr_none
theorem g_J21_getChar_fr {lo hi : Int} {x0 x1 : Int} {D : ga_D} : ga_fr lo hi D (g_J21_getChar x0 x1 D) := by
  unfold g_J21_getChar
  refine fr_ite (fun c3 => ?_) (fun c3 => ?_)
  refine g_J21_getChar_j28_fr _ _ _ 
  refine fr_ite (fun c7 => ?_) (fun c7 => ?_)
  refine g_J21_getChar_j18_fr _ 
  refine fr_bind (g_J21_length_fr) (fun r12 D12 => ?_)
  refine fr_ite (fun c15 => ?_) (fun c15 => ?_)
  refine g_J21_getChar_j28_fr _ _ _ 
  refine g_J21_getChar_j18_fr _ 
theorem g_J20_coder_fr {lo hi : Int} {x0 : Int} {D : ga_D} : ga_fr lo hi D (g_J20_coder x0 D) := by
  unfold g_J20_coder
  refine fr_ite (fun c3 => ?_) (fun c3 => ?_)
  exact fr_some
  refine fr_ck (fun hk7_0 => ?_)
  refine fr_ck (fun hr14 => ?_)
  exact fr_some
theorem g_J20_length_fr {lo hi : Int} {x0 : Int} {D : ga_D} : ga_fr lo hi D (g_J20_length x0 D) := by
  unfold g_J20_length
  refine fr_ck (fun hk1_0 => ?_)
  refine fr_ck (fun ha4_1 => ?_)
  refine fr_bind (g_J20_coder_fr) (fun r6 D6 => ?_)
  exact fr_some
theorem g_J25_numberOfLeadingZeros_j61_fr {lo hi : Int}  (x0 x1 : Int) (D : ga_D) : ga_fr lo hi D (g_J25_numberOfLeadingZeros_j61 x0 x1 D) := by
  unfold g_J25_numberOfLeadingZeros_j61
  refine fr_ite (fun c63 => ?_) (fun c63 => ?_)
  exact fr_some
  refine fr_let (fun v66 => ?_)
  refine fr_let (fun v72 => ?_)
  exact fr_some
theorem g_J25_numberOfLeadingZeros_j48_fr {lo hi : Int}  (x0 x1 : Int) (D : ga_D) : ga_fr lo hi D (g_J25_numberOfLeadingZeros_j48 x0 x1 D) := by
  unfold g_J25_numberOfLeadingZeros_j48
  refine fr_ite (fun c51 => ?_) (fun c51 => ?_)
  refine g_J25_numberOfLeadingZeros_j61_fr _ _ _ 
  refine fr_let (fun v54 => ?_)
  refine fr_let (fun v60 => ?_)
  refine g_J25_numberOfLeadingZeros_j61_fr _ _ _ 
theorem g_J25_numberOfLeadingZeros_j33_fr {lo hi : Int}  (x0 x1 : Int) (D : ga_D) : ga_fr lo hi D (g_J25_numberOfLeadingZeros_j33 x0 x1 D) := by
  unfold g_J25_numberOfLeadingZeros_j33
  refine fr_ite (fun c37 => ?_) (fun c37 => ?_)
  refine g_J25_numberOfLeadingZeros_j48_fr _ _ _ 
  refine fr_let (fun v40 => ?_)
  refine fr_let (fun v47 => ?_)
  refine g_J25_numberOfLeadingZeros_j48_fr _ _ _ 
theorem g_J25_numberOfLeadingZeros_fr {lo hi : Int} {x0 : Int} {D : ga_D} : ga_fr lo hi D (g_J25_numberOfLeadingZeros x0 D) := by
  unfold g_J25_numberOfLeadingZeros
  refine fr_ite (fun c1 => ?_) (fun c1 => ?_)
  refine fr_ite (fun c22 => ?_) (fun c22 => ?_)
  refine g_J25_numberOfLeadingZeros_j33_fr _ _ _ 
  refine fr_let (fun v25 => ?_)
  refine fr_let (fun v32 => ?_)
  refine g_J25_numberOfLeadingZeros_j33_fr _ _ _ 
  refine fr_ite (fun c5 => ?_) (fun c5 => ?_)
  exact fr_some
  exact fr_some
theorem g_J25_numberOfTrailingZeros_j62_fr {lo hi : Int}  (x0 x1 : Int) (D : ga_D) : ga_fr lo hi D (g_J25_numberOfTrailingZeros_j62 x0 x1 D) := by
  unfold g_J25_numberOfTrailingZeros_j62
  refine fr_ite (fun c64 => ?_) (fun c64 => ?_)
  exact fr_some
  refine fr_let (fun v67 => ?_)
  refine fr_let (fun v73 => ?_)
  exact fr_some
theorem g_J25_numberOfTrailingZeros_j49_fr {lo hi : Int}  (x0 x1 : Int) (D : ga_D) : ga_fr lo hi D (g_J25_numberOfTrailingZeros_j49 x0 x1 D) := by
  unfold g_J25_numberOfTrailingZeros_j49
  refine fr_ite (fun c52 => ?_) (fun c52 => ?_)
  refine g_J25_numberOfTrailingZeros_j62_fr _ _ _ 
  refine fr_let (fun v55 => ?_)
  refine fr_let (fun v61 => ?_)
  refine g_J25_numberOfTrailingZeros_j62_fr _ _ _ 
theorem g_J25_numberOfTrailingZeros_j34_fr {lo hi : Int}  (x0 x1 : Int) (D : ga_D) : ga_fr lo hi D (g_J25_numberOfTrailingZeros_j34 x0 x1 D) := by
  unfold g_J25_numberOfTrailingZeros_j34
  refine fr_ite (fun c38 => ?_) (fun c38 => ?_)
  refine g_J25_numberOfTrailingZeros_j49_fr _ _ _ 
  refine fr_let (fun v41 => ?_)
  refine fr_let (fun v48 => ?_)
  refine g_J25_numberOfTrailingZeros_j49_fr _ _ _ 
theorem g_J25_numberOfTrailingZeros_fr {lo hi : Int} {x0 : Int} {D : ga_D} : ga_fr lo hi D (g_J25_numberOfTrailingZeros x0 D) := by
  unfold g_J25_numberOfTrailingZeros
  refine fr_let (fun v7 => ?_)
  refine fr_ite (fun c9 => ?_) (fun c9 => ?_)
  refine fr_ite (fun c23 => ?_) (fun c23 => ?_)
  refine g_J25_numberOfTrailingZeros_j34_fr _ _ _ 
  refine fr_let (fun v26 => ?_)
  refine fr_let (fun v33 => ?_)
  refine g_J25_numberOfTrailingZeros_j34_fr _ _ _ 
  exact fr_some
theorem g_J23_checkIndex_j9_fr {lo hi : Int}  (x0 x1 x2 : Int) (D : ga_D) : ga_fr lo hi D (g_J23_checkIndex_j9 x0 x1 x2 D) := by
  unfold g_J23_checkIndex_j9
  exact fr_none
theorem g_J23_checkIndex_fr {lo hi : Int} {x0 x1 x2 : Int} {D : ga_D} : ga_fr lo hi D (g_J23_checkIndex x0 x1 x2 D) := by
  unfold g_J23_checkIndex
  refine fr_ite (fun c1 => ?_) (fun c1 => ?_)
  refine g_J23_checkIndex_j9_fr _ _ _ _ 
  refine fr_ite (fun c6 => ?_) (fun c6 => ?_)
  exact fr_some
  refine g_J23_checkIndex_j9_fr _ _ _ _ 
theorem g_J20_checkIndex_fr {lo hi : Int} {x0 x1 : Int} {D : ga_D} : ga_fr lo hi D (g_J20_checkIndex x0 x1 D) := by
  unfold g_J20_checkIndex
  refine fr_bind (g_J23_checkIndex_fr) (fun r5 D5 => ?_)
  exact fr_some
theorem g_J21_checkIndex_fr {lo hi : Int} {x0 x1 : Int} {D : ga_D} : ga_fr lo hi D (g_J21_checkIndex x0 x1 D) := by
  unfold g_J21_checkIndex
  refine fr_bind (g_J21_length_fr) (fun r2 D2 => ?_)
  refine fr_bind (g_J20_checkIndex_fr) (fun r5 D5 => ?_)
  exact fr_some
theorem g_J22_charAt_fr {lo hi : Int} {x0 x1 : Int} {D : ga_D} : ga_fr lo hi D (g_J22_charAt x0 x1 D) := by
  unfold g_J22_charAt
  refine fr_ck (fun ha2_0 => ?_)
  refine fr_bind (g_J20_checkIndex_fr) (fun r3 D3 => ?_)
  refine fr_ck (fun ha8 => ?_)
  refine fr_ck (fun hr14 => ?_)
  exact fr_some
theorem g_J21_charAt_fr {lo hi : Int} {x0 x1 : Int} {D : ga_D} : ga_fr lo hi D (g_J21_charAt x0 x1 D) := by
  unfold g_J21_charAt
  refine fr_bind (g_J21_checkIndex_fr) (fun r2 D2 => ?_)
  refine fr_bind (g_J21_getChar_fr) (fun r7 D7 => ?_)
  refine fr_ck (fun hr10 => ?_)
  exact fr_some
theorem g_J20_charAt_fr {lo hi : Int} {x0 x1 : Int} {D : ga_D} : ga_fr lo hi D (g_J20_charAt x0 x1 D) := by
  unfold g_J20_charAt
  refine fr_bind (g_J20_isLatin1_fr) (fun r1 D1 => ?_)
  refine fr_ck (fun hk1_0 => ?_)
  refine fr_ite (fun c4 => ?_) (fun c4 => ?_)
  refine fr_bind (g_J21_charAt_fr) (fun r21 D21 => ?_)
  refine fr_ck (fun hr24 => ?_)
  exact fr_some
  refine fr_bind (g_J22_charAt_fr) (fun r12 D12 => ?_)
  refine fr_ck (fun hr15 => ?_)
  exact fr_some
theorem g_J25_rotateRight_fr {lo hi : Int} {x0 x1 : Int} {D : ga_D} : ga_fr lo hi D (g_J25_rotateRight x0 x1 D) := by
  unfold g_J25_rotateRight
  exact fr_some
theorem g_J25_bitCount_fr {lo hi : Int} {x0 : Int} {D : ga_D} : ga_fr lo hi D (g_J25_bitCount x0 D) := by
  unfold g_J25_bitCount
  refine fr_let (fun v9 => ?_)
  refine fr_let (fun v23 => ?_)
  refine fr_let (fun v33 => ?_)
  refine fr_let (fun v40 => ?_)
  refine fr_let (fun v47 => ?_)
  exact fr_some
theorem g_J30_signum_fr {lo hi : Int} {x0 : Int} {D : ga_D} : ga_fr lo hi D (g_J30_signum x0 D) := by
  unfold g_J30_signum
  exact fr_some
