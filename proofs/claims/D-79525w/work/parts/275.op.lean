/-! what the law's helpers leave -/
abbrev vpF : Type := (Nat → Int32) ⊕ (Nat → Int64) ⊕ (Nat → UInt32) ⊕ (Nat → UInt64) ⊕ (Nat → Option Nat)
def nk (y : fmEn) : Prop := (∀ fs, y ≠ (true, .inr (.inl (0, fs)))) ∧ (∀ b t n w, y = (b, .inl (t, n, w)) → t = 3 ∨ t = 6 ∨ t = 7)
theorem nk_o {ci : Nat} {b : Bool} {fs : List Value} (h : ci ≠ 0) : nk (b, .inr (.inl (ci, fs))) := ⟨fun _ z => h (congrArg Prod.fst (Sum.inl.inj (Sum.inr.inj (congrArg Prod.snd z)))), fun _ _ _ _ z => by cases (congrArg Prod.snd z : Sum.inr (Sum.inl (ci, fs)) = Sum.inl _)⟩
theorem nk_a {t n : Nat} {b : Bool} {w : vpF} (h : t = 3 ∨ t = 6 ∨ t = 7) : nk (b, .inl (t, n, w)) := ⟨fun _ z => (by cases congrArg Prod.snd z), fun _ t' _ _ z => by have := congrArg Prod.fst (Sum.inl.inj (congrArg Prod.snd z)); change t = t' at this; rw [← this]; exact h⟩
theorem MI.nk {G : fmG} {h h' : fmHp} {e d : Nat} {N : Nat → Int32} (hM : MI G h e d N) (hk : ∀ q y, h q = some y → nk y → h' q = some y) : MI G h' e d N := by
  have kl : ∀ {l e n : Nat} {f : Nat → Nat}, AL G h l e n f → AL G h' l e n f := fun hA => by
    obtain ⟨mc, cap, fe, gg, g1, g2, r⟩ := hA
    exact ⟨mc, cap, fe, gg, hk _ _ g1 (nk_o (by decide)), hk _ _ g2 (nk_a (Or.inr (Or.inl rfl))), r⟩
  obtain ⟨g, sl, se, pl, pe, gf, sf, pf, K, pk, ⟨m1, ⟨gq, m2, m3⟩, m4, m5, m6, m7, m8, r⟩, hR⟩ := hM
  refine ⟨g, sl, se, pl, pe, gf, sf, pf, K, pk, ⟨hk _ _ m1 (nk_o (by decide)), ⟨gq, hk _ _ m2 (nk_a (Or.inr (Or.inr rfl))), m3⟩, fun c hc => ?_, kl m5, fun k q => ?_, kl m7, fun k q => ?_, r⟩, hR⟩
  · rcases m4 c hc with ⟨h1, h2, h3, h4⟩ | ⟨p, h1, h2, h4⟩ | ⟨h1, h2, h4⟩
    · exact Or.inl ⟨h1, h2, h3, hk _ _ h4 (nk_o (by decide))⟩
    · exact Or.inr (Or.inl ⟨p, h1, h2, hk _ _ h4 (nk_o (by decide))⟩)
    · exact Or.inr (Or.inr ⟨h1, h2, hk _ _ h4 (nk_o (by decide))⟩)
  · obtain ⟨cl, s1, s2⟩ := m6 k q
    exact ⟨cl, s1, hk _ _ s2 (nk_o (by decide))⟩
  · exact hk _ _ (m8 k q) (nk_o (by decide))
theorem DK.nk {G : fmG} {h h' : fmHp} {x : Nat} {a : DA} {S : DS} (hD : DK G h x a S) (hk : ∀ q y, h q = some y → nk y → h' q = some y) (hf : h' a.far = h a.far) (hq : h' a.qu = h a.qu) : DK G h' x a S := by
  obtain ⟨d, dh, w, pm, X, W, h1, h2, h3, h4, h5, ⟨g6, h6, h6e, h6r⟩, h7, ⟨u, ml, cap, bf, h8, h8v, h8r⟩, h9⟩ := hD
  refine ⟨d, dh, w, pm, X, W, hk _ _ h1 (nk_o (by decide)), hf.trans h2, hq.trans h3, h4, h5.nk hk, ⟨g6, hk _ _ h6 (nk_o (by decide)), hk _ _ h6e (nk_a (Or.inr (Or.inl rfl))), h6r⟩, fun i hi => (h7 i hi).nk hk, ⟨u, ml, cap, bf, hk _ _ h8 (nk_o (by decide)), hk _ _ h8v (nk_a (Or.inl rfl)), h8r⟩, ?_⟩
  rcases h9 with z | ⟨z1, s, z2, z3⟩
  · exact Or.inl z
  · exact Or.inr ⟨z1, s, z2, z3.nk hk⟩
/-- an array of another kind isn't the desk's own -/
theorem DK.nown {G : fmG} {h : fmHp} {x : Nat} {a : DA} {S : DS} (hD : DK G h x a S) {o t n : Nat} {b : Bool} {w : vpF} (ho : h o = some (b, .inl (t, n, w))) (ht : t ≠ 0 ∧ t ≠ 3 ∧ t ≠ 6) : ¬ own x a o := fun z => by
  obtain ⟨d, dh, w9, pm, X, W, h1, h2, h3, h4, h5, ⟨g6, h6, h6e, h6r⟩, h7, ⟨u, ml, cap, bf, h8, h8v, h8r⟩, h9⟩ := hD
  rcases z with rfl | rfl | rfl | rfl | rfl | rfl | rfl
  · have h1' : h o = _ := h1
    rw [ho] at h1'; cases h1'
  · rw [ho] at h2; cases h2; exact ht.1 rfl
  · rw [ho] at h3; cases h3; exact ht.1 rfl
  · rw [ho] at h6; cases h6
  · rw [ho] at h6e; cases h6e; exact ht.2.2 rfl
  · rw [ho] at h8; cases h8
  · rw [ho] at h8v; cases h8v; exact ht.2.1 rfl
/-- such an array is written -/
theorem DK.arr {G : fmG} {h : fmHp} {x : Nat} {a : DA} {S : DS} (hD : DK G h x a S) {o t n : Nat} {b : Bool} {w : vpF} (ho : h o = some (b, .inl (t, n, w))) (ht : t = 1 ∨ t = 2) {e : fmEn} : DK G (fmUp h o e) x a S := by
  have hn := hD.nown ho (by omega)
  refine hD.nk (fun q y hq hy => fmUp_n (fun z => ?_) ▸ hq) (fmUp_n fun z => hn (by rw [← z]; exact Or.inr (Or.inl rfl))) (fmUp_n fun z => hn (by rw [← z]; exact Or.inr (Or.inr (Or.inl rfl))))
  rw [z, ho] at hq
  cases hq
  have := hy.2 _ _ _ _ rfl
  omega
abbrev oLn (f : Nat → Int64) : fmEn := (true, .inl (1, 1, .inr (.inl f)))
abbrev oDb (f : Nat → UInt64) : fmEn := (true, .inl (2, 1, .inr (.inr (.inr (.inl f)))))
def OP (G : fmG) (h : fmHp) (x : Nat) (a : DA) (o c : Nat) (ans : Int32) (S' : DS) (h' : fmHp) : Prop := ∃ (v' : Nat) (f : Nat → Int64), DK G h' x (upv a v') S' ∧ (∀ q y, h q = some y → ¬ own x a q → q ≠ o → h' q = some y) ∧ h' o = some (oLn f) ∧ (c = 0 → f 0 = ans.toInt64)
theorem JP.ho {G : fmG} {h h' : fmHp} {x : Nat} {a : DA} {S S' : DS} (hD : DK G h x a S) (hJ : JP G h x a S' h') {o : Nat} {f : Nat → Int64} (ho : h o = some (oLn f)) : h' o = some (oLn f) := by
  obtain ⟨v', k1, k2⟩ := hJ
  exact k2 _ _ ho (hD.nown ho (by decide))
theorem JP.hd {G : fmG} {h h' : fmHp} {x : Nat} {a : DA} {S S' : DS} (hD : DK G h x a S) (hJ : JP G h x a S' h') {o : Nat} {f : Nat → UInt64} (ho : h o = some (oDb f)) : h' o = some (oDb f) := by
  obtain ⟨v', k1, k2⟩ := hJ
  exact k2 _ _ ho (hD.nown ho (by decide))
theorem OP.no {G : fmG} {h h' : fmHp} {x : Nat} {a : DA} {S S' : DS} {o c : Nat} {ans : Int32} {f : Nat → Int64} (hD : DK G h x a S) (ho : h o = some (oLn f)) (hJ : JP G h x a S' h') (hc : c ≠ 0) : OP G h x a o c ans S' h' := by
  have h2 := JP.ho hD hJ ho
  obtain ⟨v', k1, k2⟩ := hJ
  exact ⟨v', f, k1, fun q y hq h1 _ => k2 q y hq h1, h2, fun z => absurd z hc⟩
theorem OP.yes {G : fmG} {h h' : fmHp} {x : Nat} {a : DA} {S S' : DS} {o c : Nat} {ans : Int32} {f g : Nat → Int64} (hD : DK G h x a S) (ho : h o = some (oLn f)) (hJ : JP G h x a S' h') (hg : g 0 = ans.toInt64) : OP G h x a o c ans S' (fmUp h' o (oLn g)) := by
  have h2 := JP.ho hD hJ ho
  obtain ⟨v', k1, k2⟩ := hJ
  exact ⟨v', g, k1.arr h2 (Or.inl rfl), fun q y hq h1 hn => (fmUp_n hn).trans (k2 q y hq h1), fmUp_s, fun _ => hg⟩
def kf (a b c i : Nat) : Nat := if i = 0 then 0 else if i = 1 then a else if i = 2 then b else c
/-! which codes the calls can have -/
theorem aGO_cp {P : Nat → Prop} {o : Option (Int32 × Int32)} {y : ARes} (hx : P 3) (hy : P y.1) : P (aGO o y).1 := by
  cases o with
  | none => exact hy
  | some z => exact hx
theorem cd_rock {N : Nat → Int32} {v a b : Int32} : (aRock N v a b).1 = 0 ∨ (aRock N v a b).1 = 1 ∨ (aRock N v a b).1 = 2 ∨ (aRock N v a b).1 = 3 := aG_c (P := fun c => c = 0 ∨ c = 1 ∨ c = 2 ∨ c = 3) (Or.inr (Or.inl rfl)) (aG_c (P := fun c => c = 0 ∨ c = 1 ∨ c = 2 ∨ c = 3) (Or.inr (Or.inr (Or.inl rfl))) (aG_c (P := fun c => c = 0 ∨ c = 1 ∨ c = 2 ∨ c = 3) (Or.inr (Or.inr (Or.inr rfl))) (Or.inl rfl)))
theorem cd_roof {N : Nat → Int32} {v : Int32} : (aRoof N v).1 = 0 ∨ (aRoof N v).1 = 2 ∨ (aRoof N v).1 = 3 := aG_c (P := fun c => c = 0 ∨ c = 2 ∨ c = 3) (Or.inr (Or.inl rfl)) (aG_c (P := fun c => c = 0 ∨ c = 2 ∨ c = 3) (Or.inr (Or.inr rfl)) (Or.inl rfl))
theorem cd_props {N : Nat → Int32} {v : Int32} : (aProps N v).1 = 0 ∨ (aProps N v).1 = 2 := aG_c (P := fun c => c = 0 ∨ c = 2) (Or.inr rfl) (Or.inl rfl)
theorem cd_pick {N : Nat → Int32} {v : Int32} {pk : Nat} : (aPick N v pk).1 = 0 ∨ (aPick N v pk).1 = 2 ∨ (aPick N v pk).1 = 3 := aG_c (P := fun c => c = 0 ∨ c = 2 ∨ c = 3) (Or.inr (Or.inl rfl)) (aG_c (P := fun c => c = 0 ∨ c = 2 ∨ c = 3) (Or.inr (Or.inr rfl)) (Or.inl rfl))
abbrev C13 (c : Nat) : Prop := c = 0 ∨ c = 1 ∨ c = 3
abbrev C12 (c : Nat) : Prop := c = 0 ∨ c = 1 ∨ c = 2
abbrev C1 (c : Nat) : Prop := c = 0 ∨ c = 1
theorem C13_1 : C13 1 := Or.inr (Or.inl rfl)
theorem C13_3 : C13 3 := Or.inr (Or.inr rfl)
theorem cd_sink {N : Nat → Int32} {v : Int32} {K pk : Nat} : C13 (aSink N v K pk).1 := aG_c (P := C13) C13_1 (aG_c (P := C13) C13_3 (aG_c (P := C13) C13_3 (aG_c (P := C13) C13_3 (aG_c (P := C13) C13_3 (Or.inl rfl)))))
theorem cd_dig {N : Nat → Int32} {s v : Int32} {p : Bool} {K pk : Nat} : C13 (aDig N s v p K pk).1 := aG_c (P := C13) C13_1 (aGO_cp (P := C13) C13_3 (Or.inl rfl))
theorem cd_prop {N : Nat → Int32} {v : Int32} : C13 (aProp N v).1 := aG_c (P := C13) C13_1 (aG_c (P := C13) C13_3 (aG_c (P := C13) C13_3 (Or.inl rfl)))
theorem cd_unprop {N : Nat → Int32} {v : Int32} : C13 (aUnprop N v).1 := aG_c (P := C13) C13_1 (aG_c (P := C13) C13_3 (aG_c (P := C13) C13_3 (Or.inl rfl)))
theorem cd_close {N : Nat → Int32} {v : Int32} {K : Nat} : C13 (aClose N v K).1 := aG_c (P := C13) C13_1 (aG_c (P := C13) C13_3 (aG_c (P := C13) C13_3 (Or.inl rfl)))
theorem C12_1 : C12 1 := Or.inr (Or.inl rfl)
theorem C12_2 : C12 2 := Or.inr (Or.inr rfl)
theorem cd_edge {N : Nat → Int32} {v : Int32} {pk : Nat} : C1 (aEdge N v pk).1 := aG_c (P := C1) (Or.inr rfl) (Or.inl rfl)
theorem cd_cell {N : Nat → Int32} {v u : Int32} : C12 (aCell N v u).1 := aG_c (P := C12) C12_1 (aG_c (P := C12) C12_2 (Or.inl rfl))
theorem cd_span {N : Nat → Int32} {v : Int32} {b : Bool} : C1 (aSpan N v b).1 := aG_c (P := C1) (Or.inr rfl) (Or.inl rfl)
theorem cd_knock {N : Nat → Int32} {v : Int32} {K : Nat} : C12 (aKnock N v K).1 := aG_c (P := C12) C12_1 (aG_c (P := C12) C12_2 (Or.inl rfl))
theorem cd_best {N : Nat → Int32} {v : Int32} {K pk : Nat} : C12 (aBest N v K pk).1 := aG_c (P := C12) C12_1 (aG_c (P := C12) C12_2 (Or.inl rfl))
theorem cd_number {N : Nat → Int32} {v : Int32} {K pk kp len : Nat} : C1 (aNumber N v K pk kp len).1 := aG_c (P := C1) (Or.inr rfl) (Or.inl rfl)
theorem cd_shaft {N : Nat → Int32} {s u : Int32} {K : Nat} : C12 (aShaft N s u K).1 := aG_c (P := C12) C12_1 (aG_c (P := C12) C12_2 (Or.inl rfl))
theorem cd_wayG {N : Nat → Int32} {s v : Int32} {K : Nat} {f : Nat → ARes} (hf : ∀ x, C12 (f x).1) : C12 (aWayG N s v K f).1 := by
  refine aG_c (P := C12) C12_1 ?_
  cases sFirst N (cN s) (cN v) K with
  | none => exact C12_2
  | some x => exact hf x
theorem cd_way {N : Nat → Int32} {s v : Int32} {K : Nat} : C12 (aWay N s v K).1 := cd_wayG fun _ => Or.inl rfl
theorem cd_step {N : Nat → Int32} {s v i : Int32} {K : Nat} : C12 (aStep N s v i K).1 := cd_wayG fun _ => aG_c (P := C12) C12_2 (Or.inl rfl)
theorem cd_strokes {N : Nat → Int32} {s v : Int32} {K : Nat} : C12 (aStrokes N s v K).1 := cd_wayG fun _ => Or.inl rfl
theorem cd_fl {fo : Option Nat} : C1 (aFl fo).1 := aG_c (P := C1) (Or.inr rfl) (Or.inl rfl)
theorem cd_rl {re de : Int32} {b : Bool} : C1 (aRl re de b).1 := aG_c (P := C1) (Or.inr rfl) (Or.inl rfl)
theorem cd_if {p : Prop} [Decidable p] : C1 (if p then 0 else 1) := by split; exact Or.inl rfl; exact Or.inr rfl
theorem cd_if' {p : Prop} [Decidable p] : C1 (if p then 1 else 0) := by split; exact Or.inr rfl; exact Or.inl rfl
theorem cd_read {S : DS} : rdC S = 0 ∨ rdC S = 2 ∨ rdC S = 3 := by
  unfold rdC
  split
  · exact Or.inr (Or.inl rfl)
  · split
    · exact Or.inr (Or.inr rfl)
    · exact Or.inl rfl

