/-! the component's questions: what they leave and throw -/
abbrev qPost (h : fmHp) (r : ARes) : Option Value → fmHp → Prop := fun v h' => r.1 = 0 ∧ v = some (.int (aAns r)) ∧ Kp h h'
abbrev exQ (a b : String) : Nat → String := fun k => if k = 1 then a else b
abbrev qXp (h : fmHp) (ex : Nat → String) (r : ARes) : Nat → String → fmHp → Prop := fun _ Ex h' => Kp h h' ∧ r.1 ≠ 0 ∧ Ex = ex r.1
theorem qP_don {h h' : fmHp} {r : ARes} {v : Int32} {N : Nat → Int32} (hr : r = aDon v N) (hk : Kp h h') : qPost h r (some (.int v)) h' := by
  subst hr
  exact ⟨rfl, rfl, hk⟩
theorem qX_thr {h h1 h' : fmHp} {q z : Nat} {Ex E : String} {ex : Nat → String} {r : ARes} {e : fmEn} {k : Nat} (hk : Kp h h1) (hr : r = aThr k) (k0 : k ≠ 0) (he : ex k = E) (hx : Ex = E ∧ h1 q = none ∧ z ≤ q ∧ h' = fmUp h1 q e) : qXp h ex r q Ex h' := by
  obtain ⟨rfl, hq, -, rfl⟩ := hx
  subst hr
  exact ⟨hk.trans (Kp.up hq), k0, he.symm⟩
/-- what the desk holds, whatever it is -/
abbrev DkO (h : fmHp) (x far qu d pa sb : Nat) (fl re de : Int32) (sv : Value) : Prop := h x = some (true, .inr (.inl (1, [.ref far, .ref qu, .ref d, .ref pa, .ref sb, .int fl, .int re, .int de, sv])))
