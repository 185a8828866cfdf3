/-! by hand: String.checkIndex, Arrays.copyOf of references -/
set_option maxRecDepth 100000
theorem aw_or4 {p : Nat × Int} {z : Int} {a b c d : Nat} (h : z = 0 ∨ p = (a, 0) ∨ p = (b, 0) ∨ p = (c, 0) ∨ p = (d, 0)) : z = 0 ∨ ∃ k, p = (k, 0) ∧ List.elem k [a, b, c, d] = true := h.imp id (fun e => e.elim (fun e => ⟨a, e, by simp⟩) (fun e => e.elim (fun e => ⟨b, e, by simp⟩) (fun e => e.elim (fun e => ⟨c, e, by simp⟩) (fun e => ⟨d, e, by simp⟩))))
theorem hPo {x j : Int} (h : 5342 ≤ x) : ga_P0 x j = none := by
  obtain ⟨i, rfl⟩ := Int.eq_ofNat_of_zero_le (show 0 ≤ x by omega)
  show ly_p (ly_row i) j = none
  rw [ly_out (by show 5342 ≤ i; omega)]
  cases j <;> rfl
theorem go_J23 {G : aw_G} {M : aw_M} {x0 x1 : Int} {v : aw_V} (hv : aw_c2 v = false) (h0 : 0 ≤ x0) (h1 : x0 < x1) : aw_Runs yJ23_checkIndex cJ23_checkIndex 3 (some (.int)) 0 0 0 G [(0, x0), (0, x1), v] M (fun w M' => w = some (0, x0) ∧ M' = M) aw_no := by
  have hv3 : aw_cw [(0, x0), (0, x1), v] ≤ 3 := by
    show 1 + (1 + ((if aw_c2 v = true then 2 else 1) + 0)) ≤ 3
    rw [hv]
    exact Nat.le_refl _
  refine aw_body (own := "jdk/internal/util/Preconditions") (ini := false) (ls := [(0, (0, x0)), (1, (0, x1)), (2, v)]) rfl rfl (fun h => by cases h) hv3 rfl ?_
  refine x_iload_n dJ23_checkIndex_0 rfl ?_
  refine x_if_lt (tgt := 9) dJ23_checkIndex_1 (by decide) (fun z => absurd z (by omega)) (fun _ => ?_)
  refine x_iload_n dJ23_checkIndex_4 rfl ?_
  refine x_iload_n dJ23_checkIndex_5 rfl ?_
  refine x_icmp_lt (tgt := 16) dJ23_checkIndex_6 (by decide) (fun _ => ?_) (fun z => absurd h1 z)
  refine x_iload_n dJ23_checkIndex_16 rfl ?_
  exact x_iret dJ23_checkIndex_17 rfl rfl trivial ⟨rfl, rfl⟩
theorem h_J23_some {x0 x1 x2 r : Int} {D D' : ga_D} (h : h_J23_checkIndex x0 x1 x2 D = some (r, D')) : 0 ≤ x0 ∧ x0 < x1 ∧ r = x0 ∧ D' = D := by
  unfold h_J23_checkIndex at h
  by_cases e : x0 < 0
  · rw [if_pos e] at h; cases h
  · rw [if_neg e] at h
    by_cases e2 : x0 < x1
    · rw [if_pos e2] at h
      obtain ⟨rfl, rfl⟩ := ga_end h
      exact ⟨by omega, e2, rfl, rfl⟩
    · rw [if_neg e2] at h; cases h
theorem h_J20_checkIndex_ok {G : aw_G} {D D' : ga_D} {r : Int} {x0 x1 : Int} (hP : h_P D) (h : h_J20_checkIndex x0 x1 D = some (r, D')) : aw_HR yJ20_checkIndex cJ20_checkIndex 2 none 6 G [(0, x0), (0, x1)] D none D' := by
  unfold h_J20_checkIndex at h
  replace h := ga_bind_some h; obtain ⟨r5, D5, g5, h⟩ := h
  obtain ⟨h0, h1, -, rfl⟩ := h_J23_some g5
  obtain ⟨-, rfl⟩ := ga_end h
  refine ⟨hP, h_E.rf, 0, 0, fun w M => none = w ∧ M = hM D5, by omega, by omega, fun _ _ h => h, ?_⟩
  refine aw_body (own := "java/lang/String") (ini := false) (ls := [(0, (0, x0)), (1, (0, x1))]) rfl rfl (fun h => by cases h) (Nat.le_of_ble_eq_true rfl) rfl ?_
  refine x_iload_n dJ20_checkIndex_0 rfl ?_
  refine x_iload_n dJ20_checkIndex_1 rfl ?_
  refine x_getSF dJ20_checkIndex_2 q2706 (fun v hv => ?_)
  refine x_callS (c := 0) (sl := 0) (mc := 0) (ms := 0) (as := [(0, x0), (0, x1), v]) (rest := []) dJ20_checkIndex_5 (go_J23 hv h0 h1) (lw_S q2729 q2730 q474 q2731) (show _ ∧ _ ∧ _ = some 3 from by decide +kernel) (by decide) (by decide) rfl (Nat.le_of_ble_eq_true rfl) (fun w M' hw _ => ?_) aw_nox
  obtain ⟨rfl, rfl⟩ := hw
  refine x_pop dJ20_checkIndex_8 rfl ?_
  exact x_vret dJ20_checkIndex_9 rfl ⟨rfl, rfl⟩
section AHC
variable {G : aw_G} {own : String} {cc : ByteArray} {ret : Option FieldType} {nL d : Nat} {ini : Bool} {M0 : aw_M} {Q : Option aw_V → aw_M → Prop} {X : String → aw_M → Prop} {pc : Nat} {ls : List (Nat × aw_V)} {st : List aw_V} {D D' : ga_D} {N S : Int}
theorem hw_aok {x n : Int} {t : Nat} {ty : FieldType} (hk : aw_k (hM D) x = (1000 + t, n)) (ht : aw_ats[t]? = some ty) (hX : h_P D' ∧ h_E D D' ∧ hn D ≤ N ∧ hsl D ≤ S) (k : 0 ≤ n → aw_HW G own cc ret nL d ini M0 Q X D' N S pc ls st D) : aw_HW G own cc ret nL d ini M0 Q X D' N S pc ls st D := by
  by_cases h : 0 ≤ n
  · exact k h
  · obtain ⟨h1, h2, h3, h4⟩ := hX
    exact ⟨h1, h2, (N - hn D).toNat, (S - hsl D).toNat, by omega, by omega, aw_aok hk ht (fun _ hn => absurd hn.1 h)⟩
end AHC
theorem h_copyOf2_ok {G : aw_G} {D D' : ga_D} {r x n : Int} (hP : h_P D) (h : h_copyOf x n D = some (r, D')) : aw_HR yJ12_copyOf_2 cJ12_copyOf_2 4 (some (.array (.object "java/lang/Object"))) 2 G [(2, x), (0, n), (3, aw_op (aw_ad G 162))] D (some (2, r)) D' := by
  unfold h_copyOf at h
  replace h := ga_ck_some h; obtain ⟨hk0, h⟩ := h
  replace h := ga_ck_some h; obtain ⟨hn0, h⟩ := h
  replace h := ga_let_some h; obtain ⟨z, ez, h⟩ := h
  replace h := ga_let_some h; obtain ⟨D1, eD1, h⟩ := h
  replace h := ga_let_some h; obtain ⟨D2, eD2, h⟩ := h
  obtain ⟨rfl, rfl⟩ := ga_end h
  refine hw_body (own := "java/util/Arrays") (ini := false) (ls := [(0, (2, x)), (1, (0, n)), (2, (3, aw_op (aw_ad G 162)))]) rfl rfl (fun h => by cases h) (Nat.le_of_ble_eq_true rfl) rfl fun Q hq => ?_
  refine hw_1 (fun k => x_aloadQ dJ12_copyOf_2_0 rfl k) ?_
  refine hw_1 (fun k => x_ldcM dJ12_copyOf_2_1 q2063 k) ?_
  refine hw_1 (fun k => x_acmpQ (tgt := 13) dJ12_copyOf_2_3 (by decide) k) ?_
  refine hw_1 (fun k => x_iload_n dJ12_copyOf_2_6 rfl k) ?_
  refine hy_anew (t := 17) hP ez eD1 rfl rfl dJ12_copyOf_2_7 rfl (by decide) q2064 hn0.1 hn0.2 (fun hP1 hE1 hz1 hg1 => ?_)
  have hg0 : 0 ≤ z := Int.le_trans (by decide) hg1
  have hP2 : h_P D2 := hP1.cp eD2 (Int.le_trans (by decide) hg1) (Int.le_refl 0) (fun _ => hPn hz1 rfl)
  have hE2 : h_E D1 D2 := h_E_cp eD2 (Int.le_refl 0)
  have hkx : hk D1 x = (1000 + 17, (hk D x).2) := h_kx hE1 (hk_p hk0) (by decide)
  refine hw_1 (fun k => x_goto (tgt := 24) dJ12_copyOf_2_10 (by decide) k) ?_
  refine hw_1 (fun k => x_astore_n (ls' := [(3, (2, z)), (0, (2, x)), (1, (0, n)), (2, (3, aw_op (aw_ad G 162)))]) dJ12_copyOf_2_24 (by decide) rfl k) ?_
  refine hw_aok hkx rfl ⟨hP2, hE2, by rw [eD2, hn_cp hg0]; exact Int.le_refl _, by rw [eD2, hsl_cp hg0]; exact Int.le_refl _⟩ (fun hl0 => ?_)
  refine hw_1 (fun k => x_aload_n dJ12_copyOf_2_25 rfl k) ?_
  refine hw_1 (fun k => x_iconst dJ12_copyOf_2_26 (by decide) k) ?_
  refine hw_1 (fun k => x_aload_n dJ12_copyOf_2_27 rfl k) ?_
  refine hw_1 (fun k => x_iconst dJ12_copyOf_2_28 (by decide) k) ?_
  refine hw_1 (fun k => x_aload_n dJ12_copyOf_2_29 rfl k) ?_
  refine hw_1 (fun k => x_alen (t := 17) dJ12_copyOf_2_30 hkx rfl k) ?_
  refine hw_1 (fun k => x_iload_n dJ12_copyOf_2_31 rfl k) ?_
  refine hw_1 (fun k => x_mmin dJ12_copyOf_2_32 q2065 q2066 q409 q2067 (by decide) (Nat.le_of_ble_eq_true rfl) rfl k) ?_
  have hmin : 0 ≤ aw_min (hk D x).2 n ∧ aw_min (hk D x).2 n ≤ (hk D x).2 ∧ aw_min (hk D x).2 n ≤ n := by
    unfold aw_min
    have := hn0.1
    split <;> omega
  refine hw_cp eD2 hg0 (Int.le_refl 0) (fun k => x_copyR (t := 17) rfl dJ12_copyOf_2_35 q2068 q2070 q2069 q444 hkx hz1 rfl (Int.le_trans (by decide) hg1) ⟨Int.le_refl 0, Int.le_refl 0, hmin.1, by omega, by omega⟩ (by decide) (Nat.le_of_ble_eq_true rfl) k) ?_
  refine hw_1 (fun k => x_aload_n dJ12_copyOf_2_38 rfl k) ?_
  exact hw_ret hP2 (x_aret dJ12_copyOf_2_39 rfl (Or.inr ⟨_, rfl⟩) hq)
theorem h_copyOf_ok {G : aw_G} {D D' : ga_D} {r x n : Int} (hP : h_P D) (h : h_copyOf x n D = some (r, D')) : aw_HR yJ12_copyOf cJ12_copyOf 2 (some (.array (.object "java/lang/Object"))) 8 G [(2, x), (0, n)] D (some (2, r)) D' := by
  have hR := h_copyOf2_ok (G := G) hP h
  obtain ⟨hP2, hE2, -⟩ := id hR
  have hk0 : hk D x = (1017, (hk D x).2) := by
    unfold h_copyOf at h
    exact hk_p (ga_ck_some h).1
  refine hw_body (own := "java/util/Arrays") (ini := false) (ls := [(0, (2, x)), (1, (0, n))]) rfl rfl (fun h => by cases h) (Nat.le_of_ble_eq_true rfl) rfl fun Q hq => ?_
  refine hw_1 (fun k => x_aload_n dJ12_copyOf_0 rfl k) ?_
  refine hw_1 (fun k => x_iload_n dJ12_copyOf_1 rfl k) ?_
  refine hw_1 (fun k => x_aload_n dJ12_copyOf_2 rfl k) ?_
  refine hw_1 (fun k => x_getC dJ12_copyOf_3 q1969 q9709 q9708 q1970 q2059 hk0 (by decide) (Nat.le_of_ble_eq_true rfl) k) ?_
  refine hw_call (rest := []) hR (fun hc hk => x_callS (as := [(2, x), (0, n), (3, aw_op (aw_ad G 162))]) (rest := []) dJ12_copyOf_6 hc (lw_S q2060 q2061 q443 q2062) (show _ ∧ _ ∧ _ = some 3 from by decide +kernel) (by decide) (by decide) rfl (Nat.le_of_ble_eq_true rfl) hk aw_nox) ?_
  exact hw_ret hP2 (x_aret dJ12_copyOf_9 rfl (Or.inr ⟨_, rfl⟩) hq)
