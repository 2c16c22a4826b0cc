/-! A LIST: l the ArrayList, e its array, n elements at f -/
def AL (G : fmG) (h : fmHp) (l e n : Nat) (f : Nat → Nat) : Prop := ∃ (mc : Int32) (cap : Nat) (fe : Bool) (g : Nat → Option Nat), h l = some (true, .inr (.inl (12, [.int mc, .ref e, .int (nI n)]))) ∧ h e = some (fe, .inl (6, cap, .inr (.inr (.inr (.inr g))))) ∧ n ≤ cap ∧ cap ≤ 200 ∧ (cap = 0 → e = fmAd G 10) ∧ (0 < cap → fe = true) ∧ (∀ i, i < n → g i = some (f i)) ∧ (∀ i, n ≤ i → i < cap → g i = none)
def fDel (f : Nat → Nat) (i : Nat) : Nat → Nat := fun k => if k < i then f k else f (k + 1)
theorem AL.ne {G : fmG} {h : fmHp} {l e n : Nat} {f : Nat → Nat} (hA : AL G h l e n f) : l ≠ e := by
  obtain ⟨mc, cap, fe, g, h1, h2, -⟩ := hA
  exact fun q => by rw [q, h2] at h1; cases h1
/-- a list is told alike in a heap that keeps its two cells -/
theorem AL.kept {G : fmG} {h h' : fmHp} {l e n : Nat} {f : Nat → Nat} (hA : AL G h l e n f) (h1 : h' l = h l) (h2 : h' e = h e) : AL G h' l e n f := by
  obtain ⟨mc, cap, fe, g, k1, k2, k3⟩ := hA
  exact ⟨mc, cap, fe, g, h1.trans k1, h2.trans k2, k3⟩
theorem isO.up {h : fmHp} {y a : Nat} {e : fmEn} (hv : isO h y) (ha : y ≠ a) : isO (fmUp h a e) y := by
  obtain ⟨ci, C, T, N, b, fs, k1, k2, k3⟩ := hv
  exact ⟨ci, C, T, N, b, fs, k1, (fmUp_n ha).trans k2, k3⟩
theorem isO.obj {h : fmHp} {y l ci : Nat} {b b' : Bool} {fs fs' : List Value} (hl : h l = some (b', .inr (.inl (ci, fs')))) (hv : isO h y) : isO (fmUp h l (b, .inr (.inl (ci, fs)))) y := by
  by_cases hq : y = l
  · subst hq
    obtain ⟨ci2, C, T, N, b2, fs2, k1, k2, k3⟩ := hv
    rw [hl] at k2
    cases k2
    exact ⟨ci, C, T, N, b, fs, k1, fmUp_s, k3⟩
  · exact hv.up hq
