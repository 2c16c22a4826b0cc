/-! ANSWERS behind a search: the arrays far and queue are left as they come -/
abbrev rPost (h : fmHp) (far qu : Nat) (r : ARes) : Option Value → fmHp → Prop := fun v h' => r.1 = 0 ∧ v = some (.int (aAns r)) ∧ ∃ X W, Kp (fqH h far qu X W) h'
abbrev rXp (h : fmHp) (far qu : Nat) (ex : Nat → String) (r : ARes) : Nat → String → fmHp → Prop := fun _ Ex h' => (∃ X W, Kp (fqH h far qu X W) h') ∧ r.1 ≠ 0 ∧ Ex = ex r.1
theorem rP_don {h h' : fmHp} {far qu : Nat} {r : ARes} {v : Int32} {N : Nat → Int32} (hr : r = aDon v N) (hk : ∃ X W, Kp (fqH h far qu X W) h') : rPost h far qu r (some (.int v)) h' := by
  subst hr
  exact ⟨rfl, rfl, hk⟩
theorem xO_kp {h1 h' : fmHp} {q z : Nat} {Ex E : String} {e : fmEn} (hx : Ex = E ∧ h1 q = none ∧ z ≤ q ∧ h' = fmUp h1 q e) : Kp h1 h' := by
  obtain ⟨-, hq, -, rfl⟩ := hx
  exact Kp.up hq
theorem rX_thr {h h1 h' : fmHp} {far qu q z : Nat} {Ex E : String} {ex : Nat → String} {r : ARes} {e : fmEn} {k : Nat} (hk : ∃ X W, Kp (fqH h far qu X W) h1) (hr : r = aThr k) (k0 : k ≠ 0) (he : ex k = E) (hx : Ex = E ∧ h1 q = none ∧ z ≤ q ∧ h' = fmUp h1 q e) : rXp h far qu ex r q Ex h' := by
  have hk2 := xO_kp hx
  obtain ⟨X, W, hk⟩ := hk
  subst hr
  exact ⟨⟨X, W, hk.trans hk2⟩, k0, hx.1.trans he.symm⟩
theorem rX_w {h h' : fmHp} {far qu q : Nat} {Ex E : String} {ex : Nat → String} {r : ARes} {k : Nat} (hk : ∃ X W, Kp (fqH h far qu X W) h') (hr : r = aThr k) (k0 : k ≠ 0) (he : ex k = E) (hx : Ex = E) : rXp h far qu ex r q Ex h' := by
  subst hr
  exact ⟨hk, k0, hx.trans he.symm⟩
theorem rKq {h h1 : fmHp} {far qu : Nat} {X0 W0 : Nat → Int32} (hf : h far = some (fqA X0)) (hq : h qu = some (fqA W0)) (hk : Kp h h1) : ∃ X W, Kp (fqH h far qu X W) h1 := ⟨X0, W0, by rw [← fqH_id hf hq]; exact hk⟩
theorem fqH_kp {h h1 : fmHp} {far qu : Nat} {X W : Nat → Int32} (hk : Kp h h1) : Kp (fqH h far qu X W) (fqH h1 far qu X W) := fun a x ha => by
  unfold fqH at ha ⊢
  by_cases h1 : a = qu
  · subst h1; rw [fmUp_s] at ha ⊢; exact ha
  · rw [fmUp_n h1] at ha ⊢
    by_cases h2 : a = far
    · subst h2; rw [fmUp_s] at ha ⊢; exact ha
    · rw [fmUp_n h2] at ha ⊢; exact hk _ _ ha
theorem aWayG_some {N : Nat → Int32} {j c K b : Nat} {f : Nat → ARes} (hs : sBetween (nI j) (nI 0) (nI K - nI 1) = true) (hv : sBetween (nI c) (nI 0) (nI 63) = true) (hj : cN (nI j) = j) (hc : cN (nI c) = c) (hb : sFirst N j c K = some b) : aWayG N (nI j) (nI c) K f = f b := by
  unfold aWayG
  rw [hs, hv, hj, hc, hb]
  rfl
theorem aWayG_none {N : Nat → Int32} {j c K : Nat} {f : Nat → ARes} (hs : sBetween (nI j) (nI 0) (nI K - nI 1) = true) (hv : sBetween (nI c) (nI 0) (nI 63) = true) (hj : cN (nI j) = j) (hc : cN (nI c) = c) (hb : sFirst N j c K = none) : aWayG N (nI j) (nI c) K f = aThr 2 := by
  unfold aWayG
  rw [hs, hv, hj, hc, hb]
  rfl
