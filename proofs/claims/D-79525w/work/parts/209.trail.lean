/-! TRAILS: the way's objects, from its end to where it begins -/
abbrev trO (x : Nat) (ah : Value) (n : Nat) : fmEn := (true, .inr (.inl (7, [.int (nI x), ah, .int (nI n)])))
def TrL (h : fmHp) (F : Nat → Nat) (b : Nat) : Nat → Nat → Prop
  | 0, a => h a = some (trO b .null 1)
  | i + 1, a => ∃ a', h a = some (trO (sWalk F b (i + 1)) (.ref a') (i + 2)) ∧ TrL h F b i a'
theorem TrL.kp {h h' : fmHp} (hk : Kp h h') {F : Nat → Nat} {b : Nat} : ∀ {i a : Nat}, TrL h F b i a → TrL h' F b i a
  | 0, _, ht => hk _ _ ht
  | i + 1, _, ht => by
    obtain ⟨a', h1, h2⟩ := ht
    exact ⟨a', hk _ _ h1, TrL.kp hk h2⟩
theorem TrL.top {h : fmHp} {F : Nat → Nat} {b : Nat} : ∀ {i a : Nat}, TrL h F b i a → ∃ ah : Value, h a = some (trO (sWalk F b i) ah (i + 1)) ∧ (i = 0 → ah = .null) ∧ (0 < i → ∃ a', ah = .ref a' ∧ TrL h F b (i - 1) a')
  | 0, _, ht => ⟨.null, ht, fun _ => rfl, fun z => absurd z (Nat.lt_irrefl _)⟩
  | i + 1, _, ht => by
    obtain ⟨a', h1, h2⟩ := ht
    exact ⟨.ref a', h1, (fun z => by omega), fun _ => ⟨a', rfl, h2⟩⟩
/-- the component's search holds no number without its forerunner -/
theorem cF_31 {F : Nat → Nat} {x : Nat} (h : F x ≤ 64) : ∀ y, oF (F x) = some y → y < 2 ^ 31 := oF_lt (by omega)
theorem oF_eq {n : Nat} (h : n ≠ 0) : cI (oF n) = nI n := by rw [oF_n h]; rfl
theorem oF_m {n : Nat} (hn : n ≤ 64) {m : Nat} (hm : m ≤ 64) : cI (oF n) = nI m ↔ (n = 0 → False) ∧ n = m := by
  by_cases h : n = 0
  · subst h
    exact ⟨fun z => absurd z.symm (nI_m (by omega)), fun z => (z.1 rfl).elim⟩
  · rw [oF_eq h, nI_eq (by omega) (by omega)]
    exact ⟨fun z => ⟨h, z⟩, fun z => z.2⟩
theorem sNxt_none {F : Nat → Nat} {c i : Nat} (h : sBsd c (3 - i) = none) : sNxt F c (i + 1) = sNxt F c i := by
  show (match sBsd c (3 - i) with | none => sNxt F c i | some x => if 0 < F x ∧ F x + 1 = F c then some x else sNxt F c i) = _
  rw [h]
theorem sNxt_yes {F : Nat → Nat} {c i x : Nat} (h : sBsd c (3 - i) = some x) (h2 : 0 < F x ∧ F x + 1 = F c) : sNxt F c (i + 1) = some x := by
  show (match sBsd c (3 - i) with | none => sNxt F c i | some x => if 0 < F x ∧ F x + 1 = F c then some x else sNxt F c i) = _
  rw [h]
  exact if_pos h2
theorem sNxt_no {F : Nat → Nat} {c i x : Nat} (h : sBsd c (3 - i) = some x) (h2 : ¬ (0 < F x ∧ F x + 1 = F c)) : sNxt F c (i + 1) = sNxt F c i := by
  show (match sBsd c (3 - i) with | none => sNxt F c i | some x => if 0 < F x ∧ F x + 1 = F c then some x else sNxt F c i) = _
  rw [h]
  exact if_neg h2
