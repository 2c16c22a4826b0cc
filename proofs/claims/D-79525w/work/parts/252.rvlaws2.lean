theorem sBtw_hi {v : Int32} {n : Nat} (hn : n ≤ 99) (h : sBetween v (nI 1) (nI n) = true) : ∃ q, 1 ≤ q ∧ q ≤ n ∧ v = nI q := by
  unfold sBetween at h
  rw [Bool.and_eq_true, Bool.not_eq_true', Bool.not_eq_true', decide_eq_false_iff_not, decide_eq_false_iff_not] at h
  have h9 : sBetween v (nI 1) (nI 99) = true := by
    unfold sBetween
    rw [Bool.and_eq_true, Bool.not_eq_true', Bool.not_eq_true', decide_eq_false_iff_not, decide_eq_false_iff_not]
    refine ⟨h.1, fun z => h.2 ?_⟩
    by_cases e : n = 99
    · rw [e]; exact z
    · exact Int32.lt_trans (nI_lt (by omega) (by decide)) z
  obtain ⟨q, q1, q9, rfl⟩ := sBtw_1 h9
  refine ⟨q, q1, ?_, rfl⟩
  by_cases z : q ≤ n
  · exact z
  · exact absurd (nI_lt (by omega) (by omega)) h.2
theorem aRock_RV {N : Nat → Int32} {K pk : Nat} {v a b : Int32} (h : RV N K pk) (h0 : (aRock N v a b).1 = 0) : RV (aRock N v a b).2.2.2 K pk := by
  obtain ⟨b1, e1⟩ := aG_00 (by decide) h0
  change aRock N v a b = _ at e1
  rw [e1] at h0 ⊢
  obtain ⟨b2, e2⟩ := aG_00 (show (2 : Nat) ≠ 0 by decide) h0
  rw [e2] at h0 ⊢
  obtain ⟨-, e3⟩ := aG_00 (show (3 : Nat) ≠ 0 by decide) h0
  rw [e3]
  rw [Bool.not_eq_false'] at b1
  rw [Bool.or_eq_false_iff, Bool.not_eq_false', Bool.not_eq_false'] at b2
  obtain ⟨c, hc0, rfl⟩ := sBtw_of (by decide) b1
  obtain ⟨p, p1, p9, rfl⟩ := sBtw_hi (by decide) b2.1
  obtain ⟨q, q9, rfl⟩ := sBtw_of (by decide) b2.2
  have hcn : cN (nI c) = c := cN_n (by omega)
  show RV (upd (upd N (64 + cN (nI c)) (nI p)) (128 + cN (nI c)) (nI q)) K pk
  rw [hcn]
  have hn : ∀ z, z ≠ 64 + c → z ≠ 128 + c → upd (upd N (64 + c) (nI p)) (128 + c) (nI q) z = N z := fun z h1 h2 => by rw [upd_ne' h2, upd_ne' h1]
  refine h.to (hn _ (by omega) (by omega)) (hn _ (by omega) (by omega)) (fun k hk => hn _ (by omega) (by omega)) (fun d hd => ?_) (by rw [hn _ (by omega) (by omega)]; exact h.2.2.2.2.2.2.1) (fun d hd z => ⟨(hn d (by omega) (by omega)).symm.trans z, hn _ (by omega) (by omega)⟩) (fun s hs => hn _ (by omega) (by omega))
  by_cases e : d = c
  · subst e
    exact ⟨p, q, p1, p9, q9, (upd_ne' (by omega)).trans (upd_eq' rfl), upd_eq' rfl⟩
  · rw [hn _ (by omega) (by omega), hn _ (by omega) (by omega)]
    exact h.2.2.2.2.2.1 d hd
theorem aPick_RV {N : Nat → Int32} {K pk : Nat} {v : Int32} (h : RV N K pk) (h0 : (aPick N v pk).1 = 0) : RV (aPick N v pk).2.2.2 K (pk + 1) := by
  obtain ⟨b1, e1⟩ := aG_00 (by decide) h0
  change aPick N v pk = _ at e1
  rw [e1] at h0 ⊢
  obtain ⟨b2, e2⟩ := aG_00 (show (3 : Nat) ≠ 0 by decide) h0
  rw [e2]
  rw [Bool.not_eq_false'] at b1
  have hp6 := of_decide_eq_false b2
  obtain ⟨q, q1, q9, rfl⟩ := sBtw_1 b1
  obtain ⟨h1, h2, h3, h4, h5, h6, h7, h8⟩ := h
  show RV (upd (upd N (344 + pk) (nI q)) 351 (nI (pk + 1))) K (pk + 1)
  have hn : ∀ z, z ≠ 344 + pk → z ≠ 351 → upd (upd N (344 + pk) (nI q)) 351 (nI (pk + 1)) z = N z := fun z h1 h2 => by rw [upd_ne' h2, upd_ne' h1]
  refine ⟨(hn _ (by omega) (by omega)).trans h1, h2, upd_eq' rfl, by omega, fun k hk => ?_, fun c hc => by rw [hn _ (by omega) (by omega), hn _ (by omega) (by omega)]; exact h6 c hc, by rw [hn _ (by omega) (by omega)]; exact h7, fun c hc z => ?_⟩
  · by_cases e : k = pk
    · subst e; exact ⟨q, q1, q9, (upd_ne' (by omega)).trans (upd_eq' rfl)⟩
    · rw [hn _ (by omega) (by omega)]; exact h5 k (by omega)
  · rw [hn c (by omega) (by omega)] at z
    obtain ⟨s, s1, s2, s3⟩ := h8 c hc z
    exact ⟨s, s1, (hn _ (by omega) (by omega)).trans s2, (hn _ (by omega) (by omega)).trans s3⟩
theorem aUnprop_RV {N : Nat → Int32} {K pk : Nat} {v : Int32} (h : RV N K pk) (h0 : (aUnprop N v).1 = 0) : RV (aUnprop N v).2.2.2 K pk := by
  obtain ⟨b1, e1⟩ := aG_00 (by decide) h0
  change aUnprop N v = _ at e1
  rw [e1] at h0 ⊢
  obtain ⟨-, e2⟩ := aG_00 (show (3 : Nat) ≠ 0 by decide) h0
  rw [e2] at h0 ⊢
  obtain ⟨-, e3⟩ := aG_00 (show (3 : Nat) ≠ 0 by decide) h0
  rw [e3]
  rw [Bool.not_eq_false'] at b1
  obtain ⟨c, hc0, rfl⟩ := sBtw_of (by decide) b1
  have hcn : cN (nI c) = c := cN_n (by omega)
  show RV (sAddP (upd N (256 + cN (nI c)) (nI 0)) (nI 1)) K pk
  rw [hcn]
  have hn : ∀ z, z ≠ 256 + c → z ≠ 352 → sAddP (upd N (256 + c) (nI 0)) (nI 1) z = N z := fun z h1 h2 => (sAddP_ne h2).trans (upd_ne' h1)
  obtain ⟨p, p9, hp⟩ := h.2.2.2.2.2.2.1
  have hK := h.2.1
  have hP := h.2.2.2.1
  exact h.to (hn _ (by omega) (by omega)) (hn _ (by omega) (by omega)) (fun k hk => hn _ (by omega) (by omega)) (fun d hd => by rw [hn _ (by omega) (by omega), hn _ (by omega) (by omega)]; exact h.2.2.2.2.2.1 d hd) (sAddP_99 (p := p) ((upd_ne' (by omega)).trans hp) p9 (by decide)) (fun d hd z => ⟨(hn d (by omega) (by omega)).symm.trans z, hn _ (by omega) (by omega)⟩) (fun s hs => hn _ (by omega) (by omega))
theorem aProp_RV {N : Nat → Int32} {K pk : Nat} {v : Int32} (h : RV N K pk) (h0 : (aProp N v).1 = 0) : RV (aProp N v).2.2.2 K pk := by
  obtain ⟨b1, e1⟩ := aG_00 (by decide) h0
  change aProp N v = _ at e1
  rw [e1] at h0 ⊢
  obtain ⟨-, e2⟩ := aG_00 (show (3 : Nat) ≠ 0 by decide) h0
  rw [e2] at h0 ⊢
  obtain ⟨b3, e3⟩ := aG_00 (show (3 : Nat) ≠ 0 by decide) h0
  rw [e3]
  rw [Bool.not_eq_false'] at b1
  have hz := of_decide_eq_false b3
  obtain ⟨c, hc0, rfl⟩ := sBtw_of (by decide) b1
  have hcn : cN (nI c) = c := cN_n (by omega)
  show RV (sPropRow N (cN (nI c))) K pk
  rw [hcn]
  have hn : ∀ z, z ≠ 256 + c → z ≠ 352 → sPropRow N c z = N z := fun z h1 h2 => (upd_ne' h2).trans (upd_ne' h1)
  obtain ⟨p, p9, hp⟩ := h.2.2.2.2.2.2.1
  have hK := h.2.1
  have hP := h.2.2.2.1
  have hp0 : p ≠ 0 := fun z => hz (by rw [hp, z])
  have hv : sPropRow N c 352 = nI (p - 1) := by
    show upd (upd N (256 + c) (nI 1)) 352 (upd N (256 + c) (nI 1) 352 - nI 1) 352 = _
    rw [upd_eq' rfl, upd_ne' (by omega), hp, nI_subI (by omega)]
  exact h.to (hn _ (by omega) (by omega)) (hn _ (by omega) (by omega)) (fun k hk => hn _ (by omega) (by omega)) (fun d hd => by rw [hn _ (by omega) (by omega), hn _ (by omega) (by omega)]; exact h.2.2.2.2.2.1 d hd) ⟨p - 1, by omega, hv⟩ (fun d hd z => ⟨(hn d (by omega) (by omega)).symm.trans z, hn _ (by omega) (by omega)⟩) (fun s hs => hn _ (by omega) (by omega))
