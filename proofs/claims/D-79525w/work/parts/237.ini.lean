/-! the desk made: one cell after another -/
def FrX (x : Nat) (h h' : fmHp) : Prop := ∀ (q : Nat) (y : fmEn), h q = some y → q ≠ x → h' q = some y
theorem FrX.none {x b : Nat} {h H : fmHp} {o : fmEn} (hf : FrX x h H) (hx : H x = some o) (hb : H b = none) : h b = none := by
  cases e : h b with
  | none => rfl
  | some y =>
    have := hf b y e (fun z => by rw [z, hx] at hb; cases hb)
    rw [hb] at this
    cases this
theorem FrX.trans {x : Nat} {h1 h2 h3 : fmHp} (p : FrX x h1 h2) (q : FrX x h2 h3) : FrX x h1 h3 := fun a y ha hn => q a y (p a y ha hn) hn
theorem ini_1 {x b : Nat} {h H : fmHp} {o o' y : fmEn} (hf : FrX x h H) (hx : H x = some o) (hb : H b = none) : (fmUp (fmUp H b y) x o') b = some y ∧ (fmUp (fmUp H b y) x o') x = some o' ∧ FrX x H (fmUp (fmUp H b y) x o') ∧ h b = none ∧ b ≠ x := by
  have hn : b ≠ x := fun z => by rw [z, hx] at hb; cases hb
  exact ⟨(fmUp_n hn).trans fmUp_s, fmUp_s, fun q z hq h1 => by rw [fmUp_n h1]; exact fmUp_of hq hb, hf.none hx hb, hn⟩
theorem ini_2 {x b e : Nat} {h H : fmHp} {o o' y0 y z0 : fmEn} (hf : FrX x h H) (hx : H x = some o) (hb : H b = none) (he : (fmUp H b y0) e = none) : (fmUp (fmUp (fmUp (fmUp H b y0) e z0) b y) x o') b = some y ∧ (fmUp (fmUp (fmUp (fmUp H b y0) e z0) b y) x o') e = some z0 ∧ (fmUp (fmUp (fmUp (fmUp H b y0) e z0) b y) x o') x = some o' ∧ FrX x H (fmUp (fmUp (fmUp (fmUp H b y0) e z0) b y) x o') ∧ h b = none ∧ h e = none ∧ b ≠ x ∧ e ≠ x ∧ e ≠ b := by
  have hn : b ≠ x := fun z => by rw [z, hx] at hb; cases hb
  have hne : e ≠ b := fun z => by rw [z, fmUp_s] at he; cases he
  have he2 : H e = none := (fmUp_n hne).symm.trans he
  have hnx : e ≠ x := fun z => by rw [z, hx] at he2; cases he2
  exact ⟨(fmUp_n hn).trans fmUp_s, (fmUp_n hnx).trans ((fmUp_n hne).trans fmUp_s), fmUp_s, fun q z hq h1 => by
    have h2 : q ≠ b := fun w => by rw [w, hb] at hq; cases hq
    have h3 : q ≠ e := fun w => by rw [w, he2] at hq; cases hq
    rw [fmUp_n h1, fmUp_n h2, fmUp_n h3, fmUp_n h2]
    exact hq, hf.none hx hb, hf.none hx he2, hn, hnx, hne⟩
