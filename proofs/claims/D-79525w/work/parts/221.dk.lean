/-! THE DESK: all that a FlintMine holds -/
/-- not one of the desk's own cells -/
def okd (e q : Nat) (y : fmEn) : Prop := (∀ fs, y ≠ (true, .inr (.inl (1, fs)))) ∧ (∀ fs, y ≠ (true, .inr (.inl (14, fs)))) ∧ (∀ fs, y ≠ (true, .inr (.inl (15, fs)))) ∧ (∀ n f, y ≠ (true, .inl (0, n, .inl f))) ∧ (∀ n f, y ≠ (true, .inl (3, n, .inl f))) ∧ (∀ b n w, y = (b, .inl (6, n, w)) → q ≠ e)
def Kd (e : Nat) (h h' : fmHp) : Prop := ∀ (q : Nat) (y : fmEn), h q = some y → okd e q y → h' q = some y
theorem Kd.of {e : Nat} {h h' : fmHp} (hk : Kp h h') : Kd e h h' := fun q y hq _ => hk q y hq
theorem Kd.trans {e : Nat} {h1 h2 h3 : fmHp} (p : Kd e h1 h2) (q : Kd e h2 h3) : Kd e h1 h3 := fun a y ha ho => q a y (p a y ha ho) ho
theorem okd_o {e q ci : Nat} {b : Bool} {fs : List Value} (h1 : ci ≠ 1) (h2 : ci ≠ 14) (h3 : ci ≠ 15) : okd e q (b, .inr (.inl (ci, fs))) := by
  refine ⟨fun _ z => ?_, fun _ z => ?_, fun _ z => ?_, fun _ _ z => ?_, fun _ _ z => ?_, fun _ n w z => ?_⟩
  · exact h1 (congrArg Prod.fst (Sum.inl.inj (Sum.inr.inj (congrArg Prod.snd z))))
  · exact h2 (congrArg Prod.fst (Sum.inl.inj (Sum.inr.inj (congrArg Prod.snd z))))
  · exact h3 (congrArg Prod.fst (Sum.inl.inj (Sum.inr.inj (congrArg Prod.snd z))))
  · cases congrArg Prod.snd z
  · cases congrArg Prod.snd z
  · cases congrArg Prod.snd z
theorem okd_a {e q t n : Nat} {b : Bool} {g : Nat → Option Nat} (h : q ≠ e) : okd e q (b, .inl (t, n, .inr (.inr (.inr (.inr g))))) := by
  refine ⟨fun _ z => ?_, fun _ z => ?_, fun _ z => ?_, fun _ _ z => ?_, fun _ _ z => ?_, fun _ n w z => ?_⟩
  · cases congrArg Prod.snd z
  · cases congrArg Prod.snd z
  · cases congrArg Prod.snd z
  · cases congrArg (fun x => x.2.2) (Sum.inl.inj (congrArg Prod.snd z))
  · cases congrArg (fun x => x.2.2) (Sum.inl.inj (congrArg Prod.snd z))
  · exact h
theorem okd_7 {e q n : Nat} {b : Bool} {g : Nat → Option Nat} : okd e q (b, .inl (7, n, .inr (.inr (.inr (.inr g))))) := by
  refine ⟨fun _ z => ?_, fun _ z => ?_, fun _ z => ?_, fun _ _ z => ?_, fun _ _ z => ?_, fun _ n w z => ?_⟩
  · cases congrArg Prod.snd z
  · cases congrArg Prod.snd z
  · cases congrArg Prod.snd z
  · cases congrArg (fun x => x.2.2) (Sum.inl.inj (congrArg Prod.snd z))
  · cases congrArg (fun x => x.2.2) (Sum.inl.inj (congrArg Prod.snd z))
  · exact absurd (congrArg Prod.fst (Sum.inl.inj (congrArg Prod.snd z))) (show ¬ (7 : Nat) = 6 by decide)
theorem Gd.kd {e : Nat} {h h' : fmHp} {N : Nat → Int32} {c a : Nat} (hG : Gd h N c a) (hk : Kd e h h') : Gd h' N c a := by
  rcases hG with ⟨h1, h2, h3, h4⟩ | ⟨p, h1, h2, h4⟩ | ⟨h1, h2, h4⟩
  · exact Or.inl ⟨h1, h2, h3, hk _ _ h4 (okd_o (by decide) (by decide) (by decide))⟩
  · exact Or.inr (Or.inl ⟨p, h1, h2, hk _ _ h4 (okd_o (by decide) (by decide) (by decide))⟩)
  · exact Or.inr (Or.inr ⟨h1, h2, hk _ _ h4 (okd_o (by decide) (by decide) (by decide))⟩)
theorem AL.kd {e : Nat} {G : fmG} {h h' : fmHp} {l a n : Nat} {f : Nat → Nat} (hA : AL G h l a n f) (hk : Kd e h h') (hne : a ≠ e) : AL G h' l a n f := by
  obtain ⟨mc, cap, fe, g, h1, h2, r⟩ := hA
  exact ⟨mc, cap, fe, g, hk _ _ h1 (okd_o (by decide) (by decide) (by decide)), hk _ _ h2 (okd_a hne), r⟩
theorem MineAt.kd {e : Nat} {G : fmG} {h h' : fmHp} {d g sl se pl pe : Nat} {gf sf pf : Nat → Nat} {N : Nat → Int32} {K P : Nat} (hM : MineAt G h d g sl se pl pe gf sf pf N K P) (hk : Kd e h h') (h1 : se ≠ e) (h2 : pe ≠ e) : MineAt G h' d g sl se pl pe gf sf pf N K P := by
  obtain ⟨m1, ⟨gq, m2, m3⟩, m4, m5, m6, m7, m8, r⟩ := hM
  refine ⟨hk _ _ m1 (okd_o (by decide) (by decide) (by decide)), ⟨gq, hk _ _ m2 okd_7, m3⟩, fun c hc => (m4 c hc).kd hk, m5.kd hk h1, fun k q => ?_, m7.kd hk h2, fun k q => ?_, r⟩
  · obtain ⟨cl, s1, s2⟩ := m6 k q
    exact ⟨cl, s1, hk _ _ s2 (okd_o (by decide) (by decide) (by decide))⟩
  · exact hk _ _ (m8 k q) (okd_o (by decide) (by decide) (by decide))
/-- a mine of the desk: d holds the row N -/
def MI (G : fmG) (h : fmHp) (e d : Nat) (N : Nat → Int32) : Prop := ∃ (g sl se pl pe : Nat) (gf sf pf : Nat → Nat) (K pk : Nat), MineAt G h d g sl se pl pe gf sf pf N K pk ∧ RV N K pk ∧ se ≠ e ∧ pe ≠ e
theorem MI.kd {G : fmG} {h h' : fmHp} {e d : Nat} {N : Nat → Int32} (hM : MI G h e d N) (hk : Kd e h h') : MI G h' e d N := by
  obtain ⟨g, sl, se, pl, pe, gf, sf, pf, K, pk, h1, h2, h3, h4⟩ := hM
  exact ⟨g, sl, se, pl, pe, gf, sf, pf, K, pk, h1.kd hk h3 h4, h2, h3, h4⟩
theorem MI.isO {G : fmG} {h : fmHp} {e d : Nat} {N : Nat → Int32} (hM : MI G h e d N) : ∃ fs : List Value, h d = some (true, .inr (.inl (2, fs))) := by
  obtain ⟨g, sl, se, pl, pe, gf, sf, pf, K, pk, h1, -⟩ := hM
  exact ⟨_, h1.1⟩
/-- what is told of a desk -/
abbrev DS : Type := (Nat → Int32) × Nat × (Nat → Nat → Int32) × Bool × (Nat → Int32) × Int32 × Int32 × Int32 × Nat × (Nat → Int32)
abbrev DS.N (S : DS) : Nat → Int32 := S.1
abbrev DS.kp (S : DS) : Nat := S.2.1
abbrev DS.A (S : DS) : Nat → Nat → Int32 := S.2.2.1
abbrev DS.sv (S : DS) : Bool := S.2.2.2.1
abbrev DS.B (S : DS) : Nat → Int32 := S.2.2.2.2.1
abbrev DS.fl (S : DS) : Int32 := S.2.2.2.2.2.1
abbrev DS.re (S : DS) : Int32 := S.2.2.2.2.2.2.1
abbrev DS.de (S : DS) : Int32 := S.2.2.2.2.2.2.2.1
abbrev DS.len (S : DS) : Nat := S.2.2.2.2.2.2.2.2.1
abbrev DS.T (S : DS) : Nat → Int32 := S.2.2.2.2.2.2.2.2.2
/-- the desk's addresses: far, queue, past, the deque's array, input, its bytes -/
abbrev DA : Type := Nat × Nat × Nat × Nat × Nat × Nat
abbrev DA.far (a : DA) : Nat := a.1
abbrev DA.qu (a : DA) : Nat := a.2.1
abbrev DA.pa (a : DA) : Nat := a.2.2.1
abbrev DA.e (a : DA) : Nat := a.2.2.2.1
abbrev DA.sb (a : DA) : Nat := a.2.2.2.2.1
abbrev DA.v (a : DA) : Nat := a.2.2.2.2.2
abbrev DkX (h : fmHp) (x : Nat) (a : DA) (S : DS) (d : Nat) (sv : Value) : Prop := DkO h x a.far a.qu d a.pa a.sb S.fl S.re S.de sv
def svD (G : fmG) (h : fmHp) (a : DA) (S : DS) (w : Value) : Prop := (S.sv = false ∧ w = .null) ∨ (S.sv = true ∧ ∃ s, w = .ref s ∧ MI G h a.e s S.B)
def DK (G : fmG) (h : fmHp) (x : Nat) (a : DA) (S : DS) : Prop := ∃ (d dh : Nat) (w : Value) (pm : Nat → Nat) (X W : Nat → Int32),
  DkX h x a S d w ∧ h a.far = some (fqA X) ∧ h a.qu = some (fqA W) ∧ a.far ≠ a.qu ∧ MI G h a.e d S.N ∧ AD h a.pa a.e dh S.kp pm ∧ (∀ i, i < S.kp → MI G h a.e (pm i) (S.A (S.kp - 1 - i))) ∧ SBt h a.sb a.v S.len S.T ∧ svD G h a S w
/-- an own cell -/
def own (x : Nat) (a : DA) (q : Nat) : Prop := q = x ∨ q = a.far ∨ q = a.qu ∨ q = a.pa ∨ q = a.e ∨ q = a.sb ∨ q = a.v
/-- all but own cells is kept -/
def Fr (x : Nat) (a : DA) (h h' : fmHp) : Prop := ∀ (q : Nat) (y : fmEn), h q = some y → ¬ own x a q → h' q = some y
theorem Fr.kp {x : Nat} {a : DA} {h h' : fmHp} (hk : Kp h h') : Fr x a h h' := fun q y hq _ => hk q y hq
theorem Fr.trans {x : Nat} {a : DA} {h1 h2 h3 : fmHp} (p : Fr x a h1 h2) (q : Fr x a h2 h3) : Fr x a h1 h3 := fun b y hb ho => q b y (p b y hb ho) ho
/-- a frame leaves what isn't of the desk's kinds -/
theorem DK.kd {G : fmG} {h h' : fmHp} {x : Nat} {a : DA} {S : DS} (hD : DK G h x a S) (hf : Fr x a h h') : Kd a.e h h' := fun q y hq ho => by
  obtain ⟨d, dh, w, pm, X, W, h1, h2, h3, h4, h5, ⟨g, h6, h6e, -⟩, h7, ⟨u, ml, cap, bf, h8, h8v, -⟩, h9⟩ := hD
  refine hf q y hq (fun z => ?_)
  rcases z with rfl | rfl | rfl | rfl | rfl | rfl | rfl
  · rw [h1] at hq; cases hq; exact ho.1 _ rfl
  · rw [h2] at hq; cases hq; exact ho.2.2.2.1 _ _ rfl
  · rw [h3] at hq; cases hq; exact ho.2.2.2.1 _ _ rfl
  · rw [h6] at hq; cases hq; exact ho.2.1 _ rfl
  · rw [h6e] at hq; cases hq; exact ho.2.2.2.2.2 _ _ _ rfl rfl
  · rw [h8] at hq; cases hq; exact ho.2.2.1 _ rfl
  · rw [h8v] at hq; cases hq; exact ho.2.2.2.2.1 _ _ rfl
theorem svD.kd {G : fmG} {h h' : fmHp} {a : DA} {S : DS} {w : Value} (hs : svD G h a S w) (hk : Kd a.e h h') : svD G h' a S w := by
  rcases hs with h1 | ⟨h1, s, h2, h3⟩
  · exact Or.inl h1
  · exact Or.inr ⟨h1, s, h2, h3.kd hk⟩
/-- a desk whose cells all are kept -/
theorem DK.kp {G : fmG} {h h' : fmHp} {x : Nat} {a : DA} {S : DS} (hD : DK G h x a S) (hk : Kp h h') : DK G h' x a S := by
  have hd := hD.kd (Fr.kp hk)
  obtain ⟨d, dh, w, pm, X, W, h1, h2, h3, h4, h5, h6, h7, h8, h9⟩ := hD
  exact ⟨d, dh, w, pm, X, W, hk _ _ h1, hk _ _ h2, hk _ _ h3, h4, h5.kd hd, h6.kp hk, fun i hi => (h7 i hi).kd hd, h8.kept (fun y z => hk _ _ z) (fun y z => hk _ _ z), h9.kd hd⟩
/-- a desk behind a search -/
theorem DK.rf {G : fmG} {h h' : fmHp} {x : Nat} {a : DA} {S : DS} (hD : DK G h x a S) (hk : ∃ X W, Kp (fqH h a.far a.qu X W) h') : DK G h' x a S ∧ Fr x a h h' := by
  obtain ⟨X', W', hk⟩ := hk
  have hf : Fr x a h h' := fun q y hq ho => hk _ _ (by
    unfold fqH
    rw [fmUp_n (fun z => ho (Or.inr (Or.inr (Or.inl z)))), fmUp_n (fun z => ho (Or.inr (Or.inl z)))]
    exact hq)
  have hd := hD.kd hf
  obtain ⟨d, dh, w, pm, X, W, h1, h2, h3, h4, h5, ⟨g, h6, h6e, h6r⟩, h7, ⟨u, ml, cap, bf, h8, h8v, h8r⟩, h9⟩ := hD
  have hz : Kz h h' := (fqH_kz h2 h3).trans (Kz.of hk)
  refine ⟨⟨d, dh, w, pm, X', W', hz _ _ h1 (fun _ _ z => by cases z), hk _ _ (fqH_f h4), hk _ _ fqH_q, h4, h5.kd hd, ⟨g, hz _ _ h6 (fun _ _ z => by cases z), hz _ _ h6e (fun _ _ z => by cases z), h6r⟩, fun i hi => (h7 i hi).kd hd, ⟨u, ml, cap, bf, hz _ _ h8 (fun _ _ z => by cases z), hz _ _ h8v (fun _ _ z => ?_), h8r⟩, h9.kd hd⟩, hf⟩
  exact absurd (congrArg Prod.fst (Sum.inl.inj (congrArg Prod.snd z))) (show ¬ (3 : Nat) = 0 by decide)
