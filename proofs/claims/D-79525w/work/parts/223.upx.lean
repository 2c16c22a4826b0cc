/-! the desk's object written over -/
theorem MineAt.upx {G : fmG} {h : fmHp} {x d g sl se pl pe : Nat} {gf sf pf : Nat → Nat} {N : Nat → Int32} {K P : Nat} {fs fs' : List Value} (hM : MineAt G h d g sl se pl pe gf sf pf N K P) (hx : h x = some (true, .inr (.inl (1, fs)))) : MineAt G (fmUp h x (true, .inr (.inl (1, fs')))) d g sl se pl pe gf sf pf N K P := by
  have hs : se ≠ x := fun z => by
    obtain ⟨-, -, -, hS, -⟩ := hM
    obtain ⟨fe, cap, w, he⟩ := hS.el
    rw [z, hx] at he
    cases he
  have hp : pe ≠ x := fun z => by
    obtain ⟨-, -, -, -, -, hP, -⟩ := hM
    obtain ⟨fe, cap, w, he⟩ := hP.el
    rw [z, hx] at he
    cases he
  exact hM.kd (e := x) (fun q y hq ho => by
    rw [fmUp_n (fun z => by rw [z, hx] at hq; cases hq; exact ho.1 _ rfl)]
    exact hq) hs hp
theorem AD.upx {h : fmHp} {x q e dh n : Nat} {f : Nat → Nat} {fs fs' : List Value} (hA : AD h q e dh n f) (hx : h x = some (true, .inr (.inl (1, fs)))) : AD (fmUp h x (true, .inr (.inl (1, fs')))) q e dh n f := by
  obtain ⟨g, h1, h2, h3⟩ := hA
  exact ⟨g, (fmUp_n (fun z => by rw [z, hx] at h1; cases h1)).trans h1, (fmUp_n (fun z => by rw [z, hx] at h2; cases h2)).trans h2, h3⟩
theorem AD.nx {h : fmHp} {x q e dh n : Nat} {f : Nat → Nat} {fs : List Value} (hA : AD h q e dh n f) (hx : h x = some (true, .inr (.inl (1, fs)))) : x ≠ q ∧ x ≠ e := by
  obtain ⟨g, h1, h2, -⟩ := hA
  exact ⟨fun z => by (rw [← z, hx] at h1; cases h1), fun z => by (rw [← z, hx] at h2; cases h2)⟩
theorem mineO {h : fmHp} {d : Nat} {fs : List Value} (hd : h d = some (true, .inr (.inl (2, fs)))) : isO h d := ⟨2, RX2, TX2, 7, true, _, rfl, hd, q2294⟩
theorem up_none {h : fmHp} {a u : Nat} {e : fmEn} (hu : fmUp h a e u = none) : h u = none := by
  by_cases q : u = a
  · rw [q, fmUp_s] at hu; cases hu
  · rw [fmUp_n q] at hu; exact hu
