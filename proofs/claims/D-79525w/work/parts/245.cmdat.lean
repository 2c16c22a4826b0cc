/-! a command as an object -/
def tI (t : Int32) : Nat := if t = nI 115 then 4 else if t = nI 112 then 6 else if t = nI 117 then 7 else if t = nI 99 then 8 else if t = nI 116 then 3 else 2
def CmdAt (G : fmG) (h : fmHp) (c : Nat) (t v u : Int32) (p : Bool) : Prop := ∃ (b : Nat) (f : Nat → Int32),
  (t = nI 100 ∧ h c = some (true, .inr (.inl (9, [.ref (fmAd G 6), .ref b]))) ∧ h b = some (true, .inl (0, 3, .inl f)) ∧ f 0 = v ∧ f 1 = u ∧ f 2 = bI p) ∨
  (t ≠ nI 100 ∧ h c = some (true, .inr (.inl (9, [.ref (fmAd G (1 + tI t)), .ref b]))) ∧ h b = some (true, .inl (0, 1, .inl f)) ∧ f 0 = v)
theorem CmdAt.kept {G : fmG} {h h' : fmHp} {c : Nat} {t v u : Int32} {p : Bool} (hc : CmdAt G h c t v u p) (hk : ∀ q ci fs, h q = some (true, .inr (.inl (ci, fs))) → ci = 9 → h' q = some (true, .inr (.inl (ci, fs)))) (hk2 : ∀ q n f, h q = some (true, .inl (0, n, .inl f)) → h' q = some (true, .inl (0, n, .inl f))) : CmdAt G h' c t v u p := by
  obtain ⟨b, f, ⟨h1, h2, h3, h4⟩ | ⟨h1, h2, h3, h4⟩⟩ := hc
  · exact ⟨b, f, Or.inl ⟨h1, hk _ _ _ h2 rfl, hk2 _ _ _ h3, h4⟩⟩
  · exact ⟨b, f, Or.inr ⟨h1, hk _ _ _ h2 rfl, hk2 _ _ _ h3, h4⟩⟩
theorem sLet_7 {t : Int32} (h : sLet t = true) : t = nI 115 ∨ t = nI 100 ∨ t = nI 112 ∨ t = nI 117 ∨ t = nI 99 ∨ t = nI 116 ∨ t = nI 110 := by
  unfold sLet at h
  rw [Bool.or_eq_true, Bool.or_eq_true, Bool.or_eq_true, Bool.or_eq_true, Bool.or_eq_true, Bool.or_eq_true] at h
  simp only [decide_eq_true_eq] at h
  exact h
