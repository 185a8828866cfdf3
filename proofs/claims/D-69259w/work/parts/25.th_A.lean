/-! heap mode: what the theorems stand on (printed by tools/tdec.py) -/
set_option maxRecDepth 100000
theorem hkge_33 {D : ga_D} {x n : Int} (h : hk D x = (33, n)) : 4096 ≤ x := hk_ge h (by decide) (by decide +kernel)
theorem hkge_54 {D : ga_D} {x n : Int} (h : hk D x = (54, n)) : 4096 ≤ x := hk_ge h (by decide) (by decide +kernel)
theorem hkge_55 {D : ga_D} {x n : Int} (h : hk D x = (55, n)) : 4096 ≤ x := hk_ge h (by decide) (by decide +kernel)
theorem hkge_56 {D : ga_D} {x n : Int} (h : hk D x = (56, n)) : 4096 ≤ x := hk_ge h (by decide) (by decide +kernel)
theorem hkge_57 {D : ga_D} {x n : Int} (h : hk D x = (57, n)) : 4096 ≤ x := hk_ge h (by decide) (by decide +kernel)
theorem hkge_58 {D : ga_D} {x n : Int} (h : hk D x = (58, n)) : 4096 ≤ x := hk_ge h (by decide) (by decide +kernel)
theorem hkge_59 {D : ga_D} {x n : Int} (h : hk D x = (59, n)) : 4096 ≤ x := hk_ge h (by decide) (by decide +kernel)
theorem hkge_60 {D : ga_D} {x n : Int} (h : hk D x = (60, n)) : 4096 ≤ x := hk_ge h (by decide) (by decide +kernel)
theorem hkge_61 {D : ga_D} {x n : Int} (h : hk D x = (61, n)) : 4096 ≤ x := hk_ge h (by decide) (by decide +kernel)
theorem hkge_62 {D : ga_D} {x n : Int} (h : hk D x = (62, n)) : 4096 ≤ x := hk_ge h (by decide) (by decide +kernel)
theorem hkge_63 {D : ga_D} {x n : Int} (h : hk D x = (63, n)) : 4096 ≤ x := hk_ge h (by decide) (by decide +kernel)
theorem hkge_64 {D : ga_D} {x n : Int} (h : hk D x = (64, n)) : 4096 ≤ x := hk_ge h (by decide) (by decide +kernel)
theorem hkge_65 {D : ga_D} {x n : Int} (h : hk D x = (65, n)) : 4096 ≤ x := hk_ge h (by decide) (by decide +kernel)
theorem hkge_68 {D : ga_D} {x n : Int} (h : hk D x = (68, n)) : 4096 ≤ x := hk_ge h (by decide) (by decide +kernel)
theorem hkge_71 {D : ga_D} {x n : Int} (h : hk D x = (71, n)) : 4096 ≤ x := hk_ge h (by decide) (by decide +kernel)
theorem hkge_74 {D : ga_D} {x n : Int} (h : hk D x = (74, n)) : 4096 ≤ x := hk_ge h (by decide) (by decide +kernel)
theorem hkge_75 {D : ga_D} {x n : Int} (h : hk D x = (75, n)) : 4096 ≤ x := hk_ge h (by decide) (by decide +kernel)
theorem hkge_76 {D : ga_D} {x n : Int} (h : hk D x = (76, n)) : 4096 ≤ x := hk_ge h (by decide) (by decide +kernel)
theorem hkge_77 {D : ga_D} {x n : Int} (h : hk D x = (77, n)) : 4096 ≤ x := hk_ge h (by decide) (by decide +kernel)
theorem hkge_78 {D : ga_D} {x n : Int} (h : hk D x = (78, n)) : 4096 ≤ x := hk_ge h (by decide) (by decide +kernel)
theorem hkge_79 {D : ga_D} {x n : Int} (h : hk D x = (79, n)) : 4096 ≤ x := hk_ge h (by decide) (by decide +kernel)
theorem hkge_80 {D : ga_D} {x n : Int} (h : hk D x = (80, n)) : 4096 ≤ x := hk_ge h (by decide) (by decide +kernel)
theorem hkge_82 {D : ga_D} {x n : Int} (h : hk D x = (82, n)) : 4096 ≤ x := hk_ge h (by decide) (by decide +kernel)
theorem hkge_83 {D : ga_D} {x n : Int} (h : hk D x = (83, n)) : 4096 ≤ x := hk_ge h (by decide) (by decide +kernel)
theorem sbl_WasteHouse_DepositCodes_Machine : aw_sbl "WasteHouse$DepositCodes$Machine" [54] := by
  intro c h
  have h2 := List.elem_iff.mp h
  simp only [List.mem_cons, List.not_mem_nil, or_false] at h2
  rcases h2 with rfl
  · exact ⟨aw_q54, rfl, Or.inl rfl⟩
theorem sbl_WasteHouse_DepositCodes_Span : aw_sbl "WasteHouse$DepositCodes$Span" [56] := by
  intro c h
  have h2 := List.elem_iff.mp h
  simp only [List.mem_cons, List.not_mem_nil, or_false] at h2
  rcases h2 with rfl
  · exact ⟨aw_q56, rfl, Or.inl rfl⟩
theorem sbl_WasteHouse_DepositCodes_Twice : aw_sbl "WasteHouse$DepositCodes$Twice" [57] := by
  intro c h
  have h2 := List.elem_iff.mp h
  simp only [List.mem_cons, List.not_mem_nil, or_false] at h2
  rcases h2 with rfl
  · exact ⟨aw_q57, rfl, Or.inl rfl⟩
theorem sbl_WasteHouse_Entry : aw_sbl "WasteHouse$Entry" [59] := by
  intro c h
  have h2 := List.elem_iff.mp h
  simp only [List.mem_cons, List.not_mem_nil, or_false] at h2
  rcases h2 with rfl
  · exact ⟨aw_q59, rfl, Or.inl rfl⟩
theorem sbl_WasteHouse_Room : aw_sbl "WasteHouse$Room" [33, 35, 36, 37, 38, 39, 40, 41, 42, 43] := by
  intro c h
  have h2 := List.elem_iff.mp h
  simp only [List.mem_cons, List.not_mem_nil, or_false] at h2
  rcases h2 with rfl | rfl | rfl | rfl | rfl | rfl | rfl | rfl | rfl | rfl
  · exact ⟨aw_q33, rfl, Or.inr q9611⟩
  · exact ⟨aw_q35, rfl, Or.inr q9617⟩
  · exact ⟨aw_q36, rfl, Or.inr q9612⟩
  · exact ⟨aw_q37, rfl, Or.inr q9610⟩
  · exact ⟨aw_q38, rfl, Or.inr q9614⟩
  · exact ⟨aw_q39, rfl, Or.inr q9616⟩
  · exact ⟨aw_q40, rfl, Or.inr q9613⟩
  · exact ⟨aw_q41, rfl, Or.inr q9608⟩
  · exact ⟨aw_q42, rfl, Or.inr q9615⟩
  · exact ⟨aw_q43, rfl, Or.inr q9609⟩
theorem sbl_WasteHouse_TicketChain_Ticket : aw_sbl "WasteHouse$TicketChain$Ticket" [58] := by
  intro c h
  have h2 := List.elem_iff.mp h
  simp only [List.mem_cons, List.not_mem_nil, or_false] at h2
  rcases h2 with rfl
  · exact ⟨aw_q58, rfl, Or.inl rfl⟩
theorem sbl_java_lang_Comparable : aw_sbl "java/lang/Comparable" [68, 69, 70, 73] := by
  intro c h
  have h2 := List.elem_iff.mp h
  simp only [List.mem_cons, List.not_mem_nil, or_false] at h2
  rcases h2 with rfl | rfl | rfl | rfl
  · exact ⟨aw_q68, rfl, Or.inr q4007⟩
  · exact ⟨aw_q69, rfl, Or.inr q3864⟩
  · exact ⟨aw_q70, rfl, Or.inr q3838⟩
  · exact ⟨aw_q73, rfl, Or.inr q3851⟩
theorem sbl_java_lang_Integer : aw_sbl "java/lang/Integer" [70] := by
  intro c h
  have h2 := List.elem_iff.mp h
  simp only [List.mem_cons, List.not_mem_nil, or_false] at h2
  rcases h2 with rfl
  · exact ⟨aw_q70, rfl, Or.inl rfl⟩
theorem sbl_java_lang_Long : aw_sbl "java/lang/Long" [73] := by
  intro c h
  have h2 := List.elem_iff.mp h
  simp only [List.mem_cons, List.not_mem_nil, or_false] at h2
  rcases h2 with rfl
  · exact ⟨aw_q73, rfl, Or.inl rfl⟩
theorem sbl_java_lang_String : aw_sbl "java/lang/String" [69] := by
  intro c h
  have h2 := List.elem_iff.mp h
  simp only [List.mem_cons, List.not_mem_nil, or_false] at h2
  rcases h2 with rfl
  · exact ⟨aw_q69, rfl, Or.inl rfl⟩
theorem sbl_java_util_ArrayList : aw_sbl "java/util/ArrayList" [60] := by
  intro c h
  have h2 := List.elem_iff.mp h
  simp only [List.mem_cons, List.not_mem_nil, or_false] at h2
  rcases h2 with rfl
  · exact ⟨aw_q60, rfl, Or.inl rfl⟩
theorem sbl_java_util_HashMap_Node : aw_sbl "java/util/HashMap$Node" [74, 75] := by
  intro c h
  have h2 := List.elem_iff.mp h
  simp only [List.mem_cons, List.not_mem_nil, or_false] at h2
  rcases h2 with rfl | rfl
  · exact ⟨aw_q74, rfl, Or.inl rfl⟩
  · exact ⟨aw_q75, rfl, Or.inr q9706⟩
theorem sbl_java_util_Map_Entry : aw_sbl "java/util/Map$Entry" [74, 75, 76, 83] := by
  intro c h
  have h2 := List.elem_iff.mp h
  simp only [List.mem_cons, List.not_mem_nil, or_false] at h2
  rcases h2 with rfl | rfl | rfl | rfl
  · exact ⟨aw_q74, rfl, Or.inr q4493⟩
  · exact ⟨aw_q75, rfl, Or.inr q4499⟩
  · exact ⟨aw_q76, rfl, Or.inr q4502⟩
  · exact ⟨aw_q83, rfl, Or.inr q4487⟩
theorem sbl_java_util_TreeMap : aw_sbl "java/util/TreeMap" [61] := by
  intro c h
  have h2 := List.elem_iff.mp h
  simp only [List.mem_cons, List.not_mem_nil, or_false] at h2
  rcases h2 with rfl
  · exact ⟨aw_q61, rfl, Or.inl rfl⟩
theorem flm_X1_242 : ∀ c ∈ ([33, 35, 36, 37, 38, 39, 40, 41, 42, 43] : List Nat), aw_Fl "WasteHouse" 242 c 0 2 := by
  intro c h2
  simp only [List.mem_cons, List.not_mem_nil, or_false] at h2
  rcases h2 with rfl | rfl | rfl | rfl | rfl | rfl | rfl | rfl | rfl | rfl
  · exact ⟨aw_q33, "WasteHouse$Room", rfl, by decide, q2105, Or.inl rfl, rfl⟩
  · exact ⟨aw_q35, "WasteHouse$Room", rfl, by decide, q2105, Or.inl rfl, rfl⟩
  · exact ⟨aw_q36, "WasteHouse$Room", rfl, by decide, q2105, Or.inl rfl, rfl⟩
  · exact ⟨aw_q37, "WasteHouse$Room", rfl, by decide, q2105, Or.inl rfl, rfl⟩
  · exact ⟨aw_q38, "WasteHouse$Room", rfl, by decide, q2105, Or.inl rfl, rfl⟩
  · exact ⟨aw_q39, "WasteHouse$Room", rfl, by decide, q2105, Or.inl rfl, rfl⟩
  · exact ⟨aw_q40, "WasteHouse$Room", rfl, by decide, q2105, Or.inl rfl, rfl⟩
  · exact ⟨aw_q41, "WasteHouse$Room", rfl, by decide, q2105, Or.inl rfl, rfl⟩
  · exact ⟨aw_q42, "WasteHouse$Room", rfl, by decide, q2105, Or.inl rfl, rfl⟩
  · exact ⟨aw_q43, "WasteHouse$Room", rfl, by decide, q2105, Or.inl rfl, rfl⟩
theorem flm_X36_10 : ∀ c ∈ ([33, 35, 36, 37, 38, 39, 40, 41, 42, 43] : List Nat), aw_Fl "WasteHouse$Room" 10 c 1 2 := by
  intro c h2
  simp only [List.mem_cons, List.not_mem_nil, or_false] at h2
  rcases h2 with rfl | rfl | rfl | rfl | rfl | rfl | rfl | rfl | rfl | rfl
  · exact ⟨aw_q33, "WasteHouse$Room", rfl, by decide, q2106, Or.inl rfl, rfl⟩
  · exact ⟨aw_q35, "WasteHouse$Room", rfl, by decide, q2106, Or.inl rfl, rfl⟩
  · exact ⟨aw_q36, "WasteHouse$Room", rfl, by decide, q2106, Or.inl rfl, rfl⟩
  · exact ⟨aw_q37, "WasteHouse$Room", rfl, by decide, q2106, Or.inl rfl, rfl⟩
  · exact ⟨aw_q38, "WasteHouse$Room", rfl, by decide, q2106, Or.inl rfl, rfl⟩
  · exact ⟨aw_q39, "WasteHouse$Room", rfl, by decide, q2106, Or.inl rfl, rfl⟩
  · exact ⟨aw_q40, "WasteHouse$Room", rfl, by decide, q2106, Or.inl rfl, rfl⟩
  · exact ⟨aw_q41, "WasteHouse$Room", rfl, by decide, q2106, Or.inl rfl, rfl⟩
  · exact ⟨aw_q42, "WasteHouse$Room", rfl, by decide, q2106, Or.inl rfl, rfl⟩
  · exact ⟨aw_q43, "WasteHouse$Room", rfl, by decide, q2106, Or.inl rfl, rfl⟩
theorem flm_X36_16 : ∀ c ∈ ([33, 35, 36, 37, 38, 39, 40, 41, 42, 43] : List Nat), aw_Fl "WasteHouse$Room" 16 c 2 2 := by
  intro c h2
  simp only [List.mem_cons, List.not_mem_nil, or_false] at h2
  rcases h2 with rfl | rfl | rfl | rfl | rfl | rfl | rfl | rfl | rfl | rfl
  · exact ⟨aw_q33, "WasteHouse$Room", rfl, by decide, q2107, Or.inl rfl, rfl⟩
  · exact ⟨aw_q35, "WasteHouse$Room", rfl, by decide, q2107, Or.inl rfl, rfl⟩
  · exact ⟨aw_q36, "WasteHouse$Room", rfl, by decide, q2107, Or.inl rfl, rfl⟩
  · exact ⟨aw_q37, "WasteHouse$Room", rfl, by decide, q2107, Or.inl rfl, rfl⟩
  · exact ⟨aw_q38, "WasteHouse$Room", rfl, by decide, q2107, Or.inl rfl, rfl⟩
  · exact ⟨aw_q39, "WasteHouse$Room", rfl, by decide, q2107, Or.inl rfl, rfl⟩
  · exact ⟨aw_q40, "WasteHouse$Room", rfl, by decide, q2107, Or.inl rfl, rfl⟩
  · exact ⟨aw_q41, "WasteHouse$Room", rfl, by decide, q2107, Or.inl rfl, rfl⟩
  · exact ⟨aw_q42, "WasteHouse$Room", rfl, by decide, q2107, Or.inl rfl, rfl⟩
  · exact ⟨aw_q43, "WasteHouse$Room", rfl, by decide, q2107, Or.inl rfl, rfl⟩
theorem HKE_155 {i : Int} (h0 : 0 ≤ i) (h1 : i < 256) : ga_K (i + 200) = (70, 0) := by
  obtain ⟨k, rfl⟩ := Int.eq_ofNat_of_zero_le h0
  exact (show ∀ k : Nat, k < 256 → ga_K ((k : Int) + 200) = (70, 0) from by decide +kernel) k (by omega)
theorem HKE_156 {i : Int} (h0 : 0 ≤ i) (h1 : i < 256) : ga_K (i + 500) = (73, 0) := by
  obtain ⟨k, rfl⟩ := Int.eq_ofNat_of_zero_le h0
  exact (show ∀ k : Nat, k < 256 → ga_K ((k : Int) + 500) = (73, 0) from by decide +kernel) k (by omega)
theorem HKE_4877 {i : Int} (h0 : 0 ≤ i) (h1 : i < 10) : ga_K (2 * i + 4881) = (24, 0) := by
  obtain ⟨k, rfl⟩ := Int.eq_ofNat_of_zero_le h0
  exact (show ∀ k : Nat, k < 10 → ga_K (2 * (k : Int) + 4881) = (24, 0) from by decide +kernel) k (by omega)
theorem HE_4877 {D : ga_D} {i : Int} (h : ga_P D) (h0 : 0 ≤ i) (h1 : i < 10) : D 4877 i = 2 * i + 4881 := by
  obtain ⟨k, rfl⟩ := Int.eq_ofNat_of_zero_le h0
  exact h _ _ _ ((show ∀ k : Nat, k < 10 → ga_P0 4877 (k : Int) = some (2 * (k : Int) + 4881) from by decide +kernel) k (by omega))
theorem HKE_4959 {i : Int} (h0 : 0 ≤ i) (h1 : i < 6) : ga_K (8 * i + 4968) = (30, 0) := by
  obtain ⟨k, rfl⟩ := Int.eq_ofNat_of_zero_le h0
  exact (show ∀ k : Nat, k < 6 → ga_K (8 * (k : Int) + 4968) = (30, 0) from by decide +kernel) k (by omega)
theorem HE_4959 {D : ga_D} {i : Int} (h : ga_P D) (h0 : 0 ≤ i) (h1 : i < 6) : D 4959 i = 8 * i + 4968 := by
  obtain ⟨k, rfl⟩ := Int.eq_ofNat_of_zero_le h0
  exact h _ _ _ ((show ∀ k : Nat, k < 6 → ga_P0 4959 (k : Int) = some (8 * (k : Int) + 4968) from by decide +kernel) k (by omega))
