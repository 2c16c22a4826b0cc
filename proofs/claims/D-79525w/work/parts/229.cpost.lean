/-! what a change leaves -/
theorem Kd.ux {h h' : fmHp} {x pa e dh n : Nat} {f : Nat → Nat} {fs : List Value} (hA : AD h pa e dh n f) (hx : h x = some (true, .inr (.inl (1, fs)))) (hfr : ∀ q y, h q = some y → q ≠ x → q ≠ pa → q ≠ e → h' q = some y) : Kd e h h' := fun q y hq ho => by
  obtain ⟨g, h1, h2, -⟩ := hA
  refine hfr q y hq (fun z => ?_) (fun z => ?_) (fun z => ?_)
  · rw [z, hx] at hq; cases hq; exact ho.1 _ rfl
  · rw [z, h1] at hq; cases hq; exact ho.2.1 _ rfl
  · rw [z, h2] at hq; cases hq; exact ho.2.2.2.2.2 _ _ _ rfl z
abbrev xOb (far qu d pa sb : Nat) (fl re de : Int32) (sv : Value) : fmEn := (true, .inr (.inl (1, [.ref far, .ref qu, .ref d, .ref pa, .ref sb, .int fl, .int re, .int de, sv])))
/-- a change done: the draft is the mine, the old one is kept -/
abbrev cPost (G : fmG) (h : fmHp) (x far qu d pa e sb : Nat) (fl re de : Int32) (sv : Value) (kp : Nat) (pm : Nat → Nat) (r : ARes) : Option Value → fmHp → Prop := fun v h' => r.1 = 0 ∧ v = some (.int (aAns r)) ∧ ∃ (dn g1 sl1 se1 pl1 pe1 : Nat) (gf1 sf1 pf1 : Nat → Nat) (K1 pk1 : Nat), MineAt G h' dn g1 sl1 se1 pl1 pe1 gf1 sf1 pf1 r.2.2.2 K1 pk1 ∧ h dn = none ∧ se1 ≠ e ∧ pe1 ≠ e ∧ r.2.2.2 350 = nI K1 ∧ r.2.2.2 351 = nI pk1 ∧ (∃ dh', AD h' pa e dh' (kp1 kp) (fPush pm d)) ∧ h' x = some (xOb far qu dn pa sb fl re de sv) ∧ ∀ q y, h q = some y → q ≠ x → q ≠ pa → q ≠ e → h' q = some y
abbrev cXp (h : fmHp) (x far qu d pa sb : Nat) (fl : Int32) (sv : Value) (r : ARes) : Nat → String → fmHp → Prop := fun _ Ex h' => (r.1 = 1 ∧ Ex = "java/lang/IndexOutOfBoundsException" ∧ Kp h h') ∨ (r.1 = 2 ∧ Ex = "java/lang/IllegalArgumentException" ∧ Kp h h') ∨ (r.1 = 3 ∧ Ex = "java/lang/UnsupportedOperationException" ∧ h' x = some (xOb far qu d pa sb fl r.2.1.1 r.2.1.2 sv) ∧ ∀ q y, h q = some y → q ≠ x → h' q = some y)
