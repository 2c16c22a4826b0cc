/-! PURE LAWS: the row invariants are kept by the changes -/
theorem aG_00 {b : Bool} {x y : ARes} (hx : x.1 ≠ 0) (h : (aG b x y).1 = 0) : b = false ∧ aG b x y = y := by
  cases b with
  | false => exact ⟨rfl, rfl⟩
  | true => exact absurd h hx
theorem RV.to {N M : Nat → Int32} {K pk : Nat} (h : RV N K pk) (e1 : M 350 = N 350) (e2 : M 351 = N 351) (e3 : ∀ k, k < pk → M (344 + k) = N (344 + k)) (e4 : ∀ c, c < 64 → ∃ a b, 1 ≤ a ∧ a ≤ 9 ∧ b ≤ 9 ∧ M (64 + c) = nI a ∧ M (128 + c) = nI b) (e5 : ∃ p, p ≤ 99 ∧ M 352 = nI p) (e6 : ∀ c, c < 64 → M c = nI 1 → N c = nI 1 ∧ M (192 + c) = N (192 + c)) (e7 : ∀ s, s < K → M (328 + s) = N (328 + s)) : RV M K pk := by
  obtain ⟨h1, h2, h3, h4, h5, h6, h7, h8⟩ := h
  refine ⟨e1.trans h1, h2, e2.trans h3, h4, fun k hk => ?_, e4, e5, fun c hc hm => ?_⟩
  · obtain ⟨e, a, b, c⟩ := h5 k hk
    exact ⟨e, a, b, (e3 k hk).trans c⟩
  · obtain ⟨g1, g2⟩ := e6 c hc hm
    obtain ⟨s, s1, s2, s3⟩ := h8 c hc g1
    exact ⟨s, s1, g2.trans s2, (e7 s s1).trans s3⟩
theorem aRoof_RV {N : Nat → Int32} {K pk : Nat} {v : Int32} (h : RV N K pk) (h0 : (aRoof N v).1 = 0) : RV (aRoof N v).2.2.2 K pk := by
  obtain ⟨-, e1⟩ := aG_00 (by decide) h0
  change aRoof N v = _ at e1
  rw [e1] at h0 ⊢
  obtain ⟨-, e2⟩ := aG_00 (show (3 : Nat) ≠ 0 by decide) h0
  rw [e2]
  show RV (upd N 355 v) K pk
  have hn : ∀ q, q ≠ 355 → upd N 355 v q = N q := fun q hq => upd_ne' hq
  exact h.to (hn _ (by omega)) (hn _ (by omega)) (fun k hk => hn _ (by have := h.2.2.2.1; omega)) (fun c hc => by rw [hn _ (by omega), hn _ (by omega)]; exact h.2.2.2.2.2.1 c hc) (by rw [hn _ (by omega)]; exact h.2.2.2.2.2.2.1) (fun c hc z => ⟨(hn c (by omega)).symm.trans z, hn _ (by omega)⟩) (fun s hs => hn _ (by have := h.2.1; omega))
theorem sAddP_99 {N : Nat → Int32} {p q : Nat} (hp : N 352 = nI p) (hp9 : p ≤ 99) (hq : q ≤ 99) : ∃ r, r ≤ 99 ∧ sAddP N (nI q) 352 = nI r := by
  unfold sAddP
  rw [upd_eq' rfl]
  by_cases h : nI 99 < N 352 + nI q
  · rw [if_pos h]; exact ⟨99, by omega, rfl⟩
  · rw [if_neg h, hp, nI_add]
    refine ⟨p + q, ?_, rfl⟩
    rw [hp, nI_add] at h
    by_cases z : p + q ≤ 99
    · exact z
    · exact absurd (nI_lt (by omega) (by omega)) h
theorem aProps_RV {N : Nat → Int32} {K pk : Nat} {v : Int32} (h : RV N K pk) (h0 : (aProps N v).1 = 0) : RV (aProps N v).2.2.2 K pk := by
  obtain ⟨e9, e1⟩ := aG_00 (by decide) h0
  change aProps N v = _ at e1
  rw [e1]
  show RV (sAddP N v) K pk
  have hb : sBetween v (nI 1) (nI 99) = true := by cases e : sBetween v (nI 1) (nI 99) with
    | true => rfl
    | false => rw [e] at e9; cases e9
  obtain ⟨q, q1, q9, rfl⟩ := sBtw_1 hb
  obtain ⟨p, p9, hp⟩ := h.2.2.2.2.2.2.1
  have hn : ∀ z, z ≠ 352 → sAddP N (nI q) z = N z := fun z hz => sAddP_ne hz
  exact h.to (hn _ (by omega)) (hn _ (by omega)) (fun k hk => hn _ (by have := h.2.2.2.1; omega)) (fun c hc => by rw [hn _ (by omega), hn _ (by omega)]; exact h.2.2.2.2.2.1 c hc) (sAddP_99 hp p9 q9) (fun c hc z => ⟨(hn c (by omega)).symm.trans z, hn _ (by omega)⟩) (fun s hs => hn _ (by have := h.2.1; omega))
