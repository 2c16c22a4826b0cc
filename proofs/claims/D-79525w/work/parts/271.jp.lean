/-! THE DESK's calls, told on what is told of it -/
abbrev upv (a : DA) (v : Nat) : DA := (a.far, a.qu, a.pa, a.e, a.sb, v)
def JP (G : fmG) (h : fmHp) (x : Nat) (a : DA) (S' : DS) (h' : fmHp) : Prop := ∃ v', DK G h' x (upv a v') S' ∧ Fr x a h h'
abbrev JPost (G : fmG) (h : fmHp) (x : Nat) (a : DA) (c : Nat) (ans : Int32) (S' : DS) : Option Value → fmHp → Prop := fun v h' => c = 0 ∧ v = some (.int ans) ∧ JP G h x a S' h'
abbrev JXp (G : fmG) (h : fmHp) (x : Nat) (a : DA) (ex : Nat → String) (c : Nat) (S' : DS) : Nat → String → fmHp → Prop := fun _ Ex h' => c ≠ 0 ∧ Ex = ex c ∧ JP G h x a S' h'
theorem JP.kp {G : fmG} {h h' : fmHp} {x : Nat} {a : DA} {S : DS} (hD : DK G h x a S) (hk : Kp h h') : JP G h x a S h' := ⟨a.v, hD.kp hk, Fr.kp hk⟩
theorem JP.rf {G : fmG} {h h' : fmHp} {x : Nat} {a : DA} {S : DS} (hD : DK G h x a S) (hk : ∃ X W, Kp (fqH h a.far a.qu X W) h') : JP G h x a S h' := ⟨a.v, (hD.rf hk).1, (hD.rf hk).2⟩
/-- a question -/
theorem q_post {G : fmG} {h h' : fmHp} {x : Nat} {a : DA} {S : DS} {r : ARes} {v : Option Value} (hD : DK G h x a S) (q : qPost h r v h') : JPost G h x a r.1 (aAns r) S v h' := ⟨q.1, q.2.1, JP.kp hD q.2.2⟩
theorem q_xp {G : fmG} {h h' : fmHp} {x : Nat} {a : DA} {S : DS} {r : ARes} {q : Nat} {E : String} {ex : Nat → String} (hD : DK G h x a S) (z : qXp h ex r q E h') : JXp G h x a ex r.1 S q E h' := ⟨z.2.1, z.2.2, JP.kp hD z.1⟩
theorem r_post {G : fmG} {h h' : fmHp} {x : Nat} {a : DA} {S : DS} {r : ARes} {v : Option Value} (hD : DK G h x a S) (q : rPost h a.far a.qu r v h') : JPost G h x a r.1 (aAns r) S v h' := ⟨q.1, q.2.1, JP.rf hD q.2.2⟩
theorem r_xp {G : fmG} {h h' : fmHp} {x : Nat} {a : DA} {S : DS} {r : ARes} {q : Nat} {E : String} {ex : Nat → String} (hD : DK G h x a S) (z : rXp h a.far a.qu ex r q E h') : JXp G h x a ex r.1 S q E h' := ⟨z.2.1, z.2.2, JP.rf hD z.1⟩
/-- a change -/
def aPush (A : Nat → Nat → Int32) (N : Nat → Int32) (kp : Nat) : Nat → Nat → Int32 := fun j => if kp = 8 then (if j < 7 then A (j + 1) else N) else (if j = kp then N else A j)
def dsC (S : DS) (N' : Nat → Int32) : DS := (N', kp1 S.kp, aPush S.A S.N S.kp, S.sv, S.B, S.fl, S.re, S.de, S.len, S.T)
def dsR (S : DS) (w m : Int32) : DS := (S.N, S.kp, S.A, S.sv, S.B, S.fl, w, m, S.len, S.T)
def cS (S : DS) (r : ARes) : DS := if r.1 = 0 then dsC S r.2.2.2 else if r.1 = 3 then dsR S r.2.1.1 r.2.1.2 else S
def exC : Nat → String := fun c => if c = 1 then "java/lang/IndexOutOfBoundsException" else if c = 2 then "java/lang/IllegalArgumentException" else "java/lang/UnsupportedOperationException"
/-- the mine replaced -/
theorem DK.chg {G : fmG} {h h' : fmHp} {x : Nat} {a : DA} {S : DS} {d dh : Nat} {w : Value} {pm : Nat → Nat} {X W : Nat → Int32} (h1 : DkX h x a S d w) (h2 : h a.far = some (fqA X)) (h3 : h a.qu = some (fqA W)) (h4 : a.far ≠ a.qu) (h5 : MI G h a.e d S.N) (h6 : AD h a.pa a.e dh S.kp pm) (h7 : ∀ i, i < S.kp → MI G h a.e (pm i) (S.A (S.kp - 1 - i))) (h8 : SBt h a.sb a.v S.len S.T) (h9 : svD G h a S w) (hk8 : S.kp ≤ 8)
    {dn dh' : Nat} {N' : Nat → Int32} (hM : MI G h' a.e dn N') (hA' : AD h' a.pa a.e dh' (kp1 S.kp) (fPush pm d)) (hx' : h' x = some (xOb a.far a.qu dn a.pa a.sb S.fl S.re S.de w)) (hfr : ∀ q y, h q = some y → q ≠ x → q ≠ a.pa → q ≠ a.e → h' q = some y) : DK G h' x a (dsC S N') ∧ Fr x a h h' := by
  have hx0 : h x = some (xOb a.far a.qu d a.pa a.sb S.fl S.re S.de w) := h1
  obtain ⟨g6, h6o, h6e, -⟩ := id h6
  have hkd : Kd a.e h h' := Kd.ux h6 h1 hfr
  refine ⟨⟨dn, dh', w, fPush pm d, X, W, hx', ?_, ?_, h4, hM, hA', fun i hi => ?_, h8.rp h6 h1 hfr, h9.kd hkd⟩, fun q y hq ho => hfr q y hq (fun z => ho (Or.inl z)) (fun z => ho (Or.inr (Or.inr (Or.inr (Or.inl z))))) (fun z => ho (Or.inr (Or.inr (Or.inr (Or.inr (Or.inl z))))))⟩
  · exact hfr _ _ h2 (fun z => by rw [z, hx0] at h2; cases h2) (fun z => by rw [z, h6o] at h2; cases h2) (fun z => by rw [z, h6e] at h2; cases h2)
  · exact hfr _ _ h3 (fun z => by rw [z, hx0] at h3; cases h3) (fun z => by rw [z, h6o] at h3; cases h3) (fun z => by rw [z, h6e] at h3; cases h3)
  · change i < kp1 S.kp at hi
    show MI G h' a.e (fPush pm d i) (aPush S.A S.N S.kp (kp1 S.kp - 1 - i))
    unfold kp1 at hi ⊢
    cases i with
    | zero =>
      have e : aPush S.A S.N S.kp ((if S.kp = 8 then 8 else S.kp + 1) - 1 - 0) = S.N := by
        unfold aPush
        by_cases q : S.kp = 8
        · rw [if_pos q, if_pos q, if_neg (by decide)]
        · rw [if_neg q, if_neg q, if_pos (by omega)]
      rw [e]
      exact h5.kd hkd
    | succ i =>
      have e : i < S.kp ∧ aPush S.A S.N S.kp ((if S.kp = 8 then 8 else S.kp + 1) - 1 - (i + 1)) = S.A (S.kp - 1 - i) := by
        unfold aPush
        by_cases q : S.kp = 8
        · rw [if_pos q] at hi
          rw [if_pos q, if_pos q, if_pos (by omega)]
          exact ⟨by omega, congrArg S.A (by omega)⟩
        · rw [if_neg q] at hi
          rw [if_neg q, if_neg q, if_neg (by omega)]
          exact ⟨by omega, congrArg S.A (by omega)⟩
      rw [e.2]
      exact (h7 i e.1).kd hkd
/-- the desk's object alone written -/
theorem DK.setx {G : fmG} {h h' : fmHp} {x : Nat} {a : DA} {S S' : DS} {d dh : Nat} {w : Value} {pm : Nat → Nat} {X W : Nat → Int32} (h1 : DkX h x a S d w) (h2 : h a.far = some (fqA X)) (h3 : h a.qu = some (fqA W)) (h4 : a.far ≠ a.qu) (h5 : MI G h a.e d S.N) (h6 : AD h a.pa a.e dh S.kp pm) (h7 : ∀ i, i < S.kp → MI G h a.e (pm i) (S.A (S.kp - 1 - i))) (h8 : SBt h a.sb a.v S.len S.T) (h9 : svD G h a S w)
    (hx' : DkX h' x a S' d w) (hfr : ∀ q y, h q = some y → q ≠ x → h' q = some y) (eN : S'.N = S.N) (ek : S'.kp = S.kp) (eA : S'.A = S.A) (es : S'.sv = S.sv) (eB : S'.B = S.B) (el : S'.len = S.len) (eT : S'.T = S.T) : DK G h' x a S' ∧ Fr x a h h' := by
  have hx0 : h x = some (xOb a.far a.qu d a.pa a.sb S.fl S.re S.de w) := h1
  have hkd : Kd a.e h h' := Kd.ux h6 h1 (fun q y hq h0 _ _ => hfr q y hq h0)
  refine ⟨⟨d, dh, w, pm, X, W, hx', ?_, ?_, h4, by rw [eN]; exact h5.kd hkd, by rw [ek]; exact h6.oth hx0 (by decide) hfr, fun i hi => ?_, ?_, ?_⟩, fun q y hq ho => hfr q y hq (fun z => ho (Or.inl z))⟩
  · exact hfr _ _ h2 (fun z => by rw [z, hx0] at h2; cases h2)
  · exact hfr _ _ h3 (fun z => by rw [z, hx0] at h3; cases h3)
  · rw [ek] at hi
    rw [ek, eA]
    exact (h7 i hi).kd hkd
  · rw [el, eT]
    exact h8.rp h6 h1 (fun q y hq h0 _ _ => hfr q y hq h0)
  · have := h9.kd hkd
    unfold svD at this ⊢
    rw [es, eB]
    exact this
theorem c_post {G : fmG} {h h' : fmHp} {x : Nat} {a : DA} {S : DS} {d dh : Nat} {w : Value} {pm : Nat → Nat} {X W : Nat → Int32} {r : ARes} {v : Option Value} (h1 : DkX h x a S d w) (h2 : h a.far = some (fqA X)) (h3 : h a.qu = some (fqA W)) (h4 : a.far ≠ a.qu) (h5 : MI G h a.e d S.N) (h6 : AD h a.pa a.e dh S.kp pm) (h7 : ∀ i, i < S.kp → MI G h a.e (pm i) (S.A (S.kp - 1 - i))) (h8 : SBt h a.sb a.v S.len S.T) (h9 : svD G h a S w) (hk8 : S.kp ≤ 8)
    (hRV : r.1 = 0 → ∃ K' pk', RV r.2.2.2 K' pk') (hc : cPost G h x a.far a.qu d a.pa a.e a.sb S.fl S.re S.de w S.kp pm r v h') : JPost G h x a r.1 (aAns r) (cS S r) v h' := by
  obtain ⟨hr0, rfl, dn, g1, sl1, se1, pl1, pe1, gf1, sf1, pf1, K1, pk1, hM, hdn, hse, hpe, h350, h351, ⟨dh', hA'⟩, hx', hfr⟩ := hc
  obtain ⟨K2, pk2, hR2⟩ := hRV hr0
  obtain ⟨-, -, hK8, hP6⟩ := hM.bit
  obtain ⟨k1, k2⟩ := DK.chg h1 h2 h3 h4 h5 h6 h7 h8 h9 hk8 (N' := r.2.2.2) ⟨g1, sl1, se1, pl1, pe1, gf1, sf1, pf1, K1, pk1, hM, hR2.same h350 hK8 h351 hP6, hse, hpe⟩ hA' hx' hfr
  refine ⟨hr0, rfl, a.v, ?_, k2⟩
  rw [show cS S r = dsC S r.2.2.2 from if_pos hr0]
  exact k1
theorem c_xp {G : fmG} {h h' : fmHp} {x : Nat} {a : DA} {S : DS} {d dh : Nat} {w : Value} {pm : Nat → Nat} {X W : Nat → Int32} {r : ARes} {q : Nat} {E : String} (h1 : DkX h x a S d w) (h2 : h a.far = some (fqA X)) (h3 : h a.qu = some (fqA W)) (h4 : a.far ≠ a.qu) (h5 : MI G h a.e d S.N) (h6 : AD h a.pa a.e dh S.kp pm) (h7 : ∀ i, i < S.kp → MI G h a.e (pm i) (S.A (S.kp - 1 - i))) (h8 : SBt h a.sb a.v S.len S.T) (h9 : svD G h a S w)
    (hc : cXp h x a.far a.qu d a.pa a.sb S.fl w r q E h') : JXp G h x a exC r.1 (cS S r) q E h' := by
  have hD : DK G h x a S := ⟨d, dh, w, pm, X, W, h1, h2, h3, h4, h5, h6, h7, h8, h9⟩
  rcases hc with ⟨hr, rfl, hk⟩ | ⟨hr, rfl, hk⟩ | ⟨hr, rfl, hx', hfr⟩
  · refine ⟨by rw [hr]; decide, by rw [hr]; rfl, ?_⟩
    rw [show cS S r = S by unfold cS; rw [hr]; rfl]
    exact JP.kp hD hk
  · refine ⟨by rw [hr]; decide, by rw [hr]; rfl, ?_⟩
    rw [show cS S r = S by unfold cS; rw [hr]; rfl]
    exact JP.kp hD hk
  · refine ⟨by rw [hr]; decide, by rw [hr]; rfl, a.v, ?_⟩
    rw [show cS S r = dsR S r.2.1.1 r.2.1.2 by unfold cS; rw [hr]; rfl]
    exact DK.setx h1 h2 h3 h4 h5 h6 h7 h8 h9 (S' := dsR S r.2.1.1 r.2.1.2) hx' hfr rfl rfl rfl rfl rfl rfl rfl
