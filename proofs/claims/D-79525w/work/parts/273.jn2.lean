/-! the desk's calls that read, undo, save -/
/-- a frame that leaves all but the desk's object, its deque, its text -/
theorem DK.fr {h h' : fmHp} {x : Nat} {a : DA} {S : DS} {d dh : Nat} {w : Value} {pm : Nat → Nat} {X W : Nat → Int32} (h1 : DkX h x a S d w) (h2 : h a.far = some (fqA X)) (h3 : h a.qu = some (fqA W)) (h6 : AD h a.pa a.e dh S.kp pm) (h8 : SBt h a.sb a.v S.len S.T)
    (hfr : ∀ q y, h q = some y → q ≠ x → q ≠ a.pa → q ≠ a.e → q ≠ a.sb → q ≠ a.v → h' q = some y) : h' a.far = some (fqA X) ∧ h' a.qu = some (fqA W) ∧ Kd a.e h h' ∧ Fr x a h h' := by
  have hx0 : h x = some (xOb a.far a.qu d a.pa a.sb S.fl S.re S.de w) := h1
  obtain ⟨g6, h6o, h6e, -⟩ := id h6
  obtain ⟨us, ml, cap, bf, hsb, hv, -⟩ := id h8
  have k : ∀ q X, h q = some (fqA X) → h' q = some (fqA X) := fun q X hq => hfr _ _ hq (fun z => by rw [z, hx0] at hq; cases hq) (fun z => by rw [z, h6o] at hq; cases hq) (fun z => by rw [z, h6e] at hq; cases hq) (fun z => by rw [z, hsb] at hq; cases hq) (fun z => by rw [z, hv] at hq; cases hq)
  refine ⟨k _ _ h2, k _ _ h3, fun q y hq ho => hfr q y hq (fun z => ?_) (fun z => ?_) (fun z => ?_) (fun z => ?_) (fun z => ?_), fun q y hq ho => hfr q y hq (fun z => ho (Or.inl z)) (fun z => ho (Or.inr (Or.inr (Or.inr (Or.inl z))))) (fun z => ho (Or.inr (Or.inr (Or.inr (Or.inr (Or.inl z)))))) (fun z => ho (Or.inr (Or.inr (Or.inr (Or.inr (Or.inr (Or.inl z))))))) (fun z => ho (Or.inr (Or.inr (Or.inr (Or.inr (Or.inr (Or.inr z)))))))⟩
  · rw [z, hx0] at hq; cases hq; exact ho.1 _ rfl
  · rw [z, h6o] at hq; cases hq; exact ho.2.1 _ rfl
  · rw [z, h6e] at hq; cases hq; exact ho.2.2.2.2.2 _ _ _ rfl z
  · rw [z, hsb] at hq; cases hq; exact ho.2.2.1 _ rfl
  · rw [z, hv] at hq; cases hq; exact ho.2.2.2.2.1 _ _ rfl
theorem AD.txt {h h' : fmHp} {x pa e dh n sb v len : Nat} {f : Nat → Nat} {T : Nat → Int32} {fs : List Value} (hA : AD h pa e dh n f) (hS : SBt h sb v len T) (hx : h x = some (true, .inr (.inl (1, fs)))) (hfr : ∀ q y, h q = some y → q ≠ x → q ≠ sb → q ≠ v → h' q = some y) : AD h' pa e dh n f := by
  obtain ⟨us, ml, cap, bf, hsb, hv, -⟩ := id hS
  obtain ⟨g, h1, h2, r⟩ := hA
  exact ⟨g, hfr _ _ h1 (fun z => by rw [z, hx] at h1; cases h1) (fun z => by rw [z, hsb] at h1; cases h1) (fun z => by rw [z, hv] at h1; cases h1), hfr _ _ h2 (fun z => by rw [z, hx] at h2; cases h2) (fun z => by rw [z, hsb] at h2; cases h2) (fun z => by rw [z, hv] at h2; cases h2), r⟩
theorem xne {h : fmHp} {x pa e dh n sb v len : Nat} {f : Nat → Nat} {T : Nat → Int32} {fs : List Value} (hA : AD h pa e dh n f) (hS : SBt h sb v len T) (hx : h x = some (true, .inr (.inl (1, fs)))) : x ≠ sb ∧ x ≠ v ∧ x ≠ pa ∧ x ≠ e := by
  obtain ⟨us, ml, cap, bf, hsb, hv, -⟩ := id hS
  obtain ⟨g, h1, h2, r⟩ := hA
  exact ⟨fun z => by (rw [z, hsb] at hx; cases hx), fun z => by (rw [z, hv] at hx; cases hx), fun z => by (rw [z, h1] at hx; cases hx), fun z => by (rw [z, h2] at hx; cases hx)⟩
def dsF (S : DS) (k : Nat) : DS := if S.len < 60 then (S.N, S.kp, S.A, S.sv, S.B, S.fl, S.re, S.de, S.len + 1, upd S.T S.len (nI k)) else S
def dsU (S : DS) : DS := if S.kp = 0 then S else (S.A (S.kp - 1), S.kp - 1, S.A, S.sv, S.B, S.fl, S.re, S.de, S.len, S.T)
def dsS (S : DS) : DS := (S.N, S.kp, S.A, true, S.N, S.fl, S.re, S.de, S.len, S.T)
def dsB (S : DS) : DS := if S.sv = true then (S.B, 0, S.A, S.sv, S.B, S.fl, S.re, S.de, S.len, S.T) else S
/-- what read leaves: the code, the answer, the desk -/
def pW (S : DS) : Bool := (pAll S.T S.len 0).1.2.2.2.2.2
def pE (S : DS) : Nat := (pAll S.T S.len 0).1.2.2.2.2.1
def pM (S : DS) : Nat := (pAll S.T S.len 0).2
def pR (S : DS) : Option (Int32 × Int32) × (Nat → Int32) := tRun S.T S.len (pM S) 0 0 0 S.N
def rdC (S : DS) : Nat := if pW S = true then 2 else if (pR S).1.isSome then 3 else 0
def rdS (S : DS) : DS := if pW S = true then (S.N, S.kp, S.A, S.sv, S.B, nI (pE S), S.re, S.de, 0, S.T) else match (pR S).1 with
  | some (w, m) => (S.N, S.kp, S.A, S.sv, S.B, S.fl, w, m, 0, S.T)
  | none => ((pR S).2, kp1 S.kp, aPush S.A S.N S.kp, S.sv, S.B, S.fl, S.re, S.de, 0, S.T)
theorem dk_push {G : fmG} {h h' : fmHp} {e d : Nat} {S : DS} {pm : Nat → Nat} (h5 : MI G h e d S.N) (h7 : ∀ i, i < S.kp → MI G h e (pm i) (S.A (S.kp - 1 - i))) (hkd : Kd e h h') {i : Nat} (hi : i < kp1 S.kp) : MI G h' e (fPush pm d i) (aPush S.A S.N S.kp (kp1 S.kp - 1 - i)) := by
  unfold kp1 at hi ⊢
  cases i with
  | zero =>
    have e : aPush S.A S.N S.kp ((if S.kp = 8 then 8 else S.kp + 1) - 1 - 0) = S.N := by
      unfold aPush
      by_cases q : S.kp = 8
      · rw [if_pos q, if_pos q, if_neg (by decide)]
      · rw [if_neg q, if_neg q, if_pos (by omega)]
    rw [e]
    exact h5.kd hkd
  | succ i =>
    have e : i < S.kp ∧ aPush S.A S.N S.kp ((if S.kp = 8 then 8 else S.kp + 1) - 1 - (i + 1)) = S.A (S.kp - 1 - i) := by
      unfold aPush
      by_cases q : S.kp = 8
      · rw [if_pos q] at hi
        rw [if_pos q, if_pos q, if_pos (by omega)]
        exact ⟨by omega, congrArg S.A (by omega)⟩
      · rw [if_neg q] at hi
        rw [if_neg q, if_neg q, if_neg (by omega)]
        exact ⟨by omega, congrArg S.A (by omega)⟩
    rw [e.2]
    exact (h7 i e.1).kd hkd
theorem jn_feed (G : fmG) (hl : (fmLn G).stackTraces = false) (h : fmHp) {x : Nat} {a : DA} {S : DS} (hC : CC G h) (hD : DK G h x a S) (hk8 : S.kp ≤ 8) (hlen : S.len ≤ 60) (k : Nat) (hk : k < 65536) : Ct G yX1_feed (ws_ yX1_feed cX1_feed 2 (some .int)) { frames := 8, cells := 2, slots := 1000, locals := 179 } [.ref x, .int (nI k)] h (JPost G h x a (if S.len < 60 then 0 else 1) (nI (S.len + 1)) (dsF S k)) (JXp G h x a (exQ "java/lang/IllegalStateException" "java/lang/IllegalStateException") (if S.len < 60 then 0 else 1) (dsF S k)) := by
  obtain ⟨d, dh, w, pm, X, W, h1, h2, h3, h4, h5, h6, h7, h8, h9⟩ := id hD
  obtain ⟨g, sl, se, pl, pe, gf, sf, pf, K, pk, hM, hR, hse, hpe⟩ := id h5
  obtain ⟨-, eK, eP⟩ := RI_of hR.1 hR.2.1 hR.2.2.1 hR.2.2.2.1
  have hx0 : h x = some (xOb a.far a.qu d a.pa a.sb S.fl S.re S.de w) := h1
  refine (ct_X1_feed G hl h hC h1 a.v S.len S.T h8 k hk hlen).imp (fun v' h' q => ?_) (fun q E h' z => ?_)
  · obtain ⟨q1, rfl, v1, hS1, hfr, hv1⟩ := q
    obtain ⟨k1, k2, k3, k4⟩ := DK.fr h1 h2 h3 h6 h8 (fun q y hq _ _ _ e1 e2 => hfr q y hq e1 e2)
    obtain ⟨n1, n2, -⟩ := xne h6 h8 hx0
    refine ⟨if_pos q1, rfl, v1, ?_, k4⟩
    rw [show dsF S k = _ from if_pos q1]
    exact ⟨d, dh, w, pm, X, W, hfr _ _ hx0 n1 n2, k1, k2, h4, h5.kd k3, h6.txt h8 hx0 (fun q y hq _ e1 e2 => hfr q y hq e1 e2), fun i hi => (h7 i hi).kd k3, hS1, h9.kd k3⟩
  · obtain ⟨z1, rfl, z3⟩ := z
    have e : ¬ S.len < 60 := by omega
    refine ⟨by rw [if_neg e]; decide, by rw [if_neg e]; rfl, ?_⟩
    rw [show dsF S k = S from if_neg e]
    exact JP.kp hD z3
theorem jn_undo (G : fmG) (hl : (fmLn G).stackTraces = false) (h : fmHp) {x : Nat} {a : DA} {S : DS} (hC : CC G h) (hD : DK G h x a S) (hk8 : S.kp ≤ 8)  : Ct G yX1_undo (ws_ yX1_undo cX1_undo 1 (some .int)) { frames := 7, cells := 1, slots := 6, locals := 120 } [.ref x] h (JPost G h x a (if S.kp = 0 then 1 else 0) (nI (S.kp - 1)) (dsU S)) (JXp G h x a (exQ "java/lang/IllegalStateException" "java/lang/IllegalStateException") (if S.kp = 0 then 1 else 0) (dsU S)) := by
  obtain ⟨d, dh, w, pm, X, W, h1, h2, h3, h4, h5, h6, h7, h8, h9⟩ := id hD
  obtain ⟨g, sl, se, pl, pe, gf, sf, pf, K, pk, hM, hR, hse, hpe⟩ := id h5
  obtain ⟨-, eK, eP⟩ := RI_of hR.1 hR.2.1 hR.2.2.1 hR.2.2.2.1
  have hx0 : h x = some (xOb a.far a.qu d a.pa a.sb S.fl S.re S.de w) := h1
  refine (ct_X1_undo G hl h hC h1 a.e dh S.kp pm h6 (fun z => (h7 0 z).isO)).imp (fun v' h' q => ?_) (fun q E h' z => ?_)
  · obtain ⟨q1, rfl, ⟨dh', hA'⟩, hx', hfr⟩ := q
    obtain ⟨k1, k2, k3, k4⟩ := DK.fr h1 h2 h3 h6 h8 (fun q y hq e1 e2 e3 _ _ => hfr q y hq e1 e2 e3)
    have e : ¬ S.kp = 0 := by omega
    refine ⟨if_neg e, rfl, a.v, ?_, k4⟩
    rw [show dsU S = _ from if_neg e]
    exact ⟨pm 0, dh', w, fun i => pm (i + 1), X, W, hx', k1, k2, h4, (h7 0 q1).kd k3, hA', fun i hi => by
      have z := (h7 (i + 1) (show i + 1 < S.kp by change i < S.kp - 1 at hi; omega)).kd k3
      rw [show S.kp - 1 - (i + 1) = S.kp - 1 - 1 - i by omega] at z
      exact z, h8.rp h6 h1 hfr, h9.kd k3⟩
  · obtain ⟨z1, rfl, z3⟩ := z
    refine ⟨by rw [if_pos z1]; decide, by rw [if_pos z1]; rfl, ?_⟩
    rw [show dsU S = S from if_pos z1]
    exact JP.kp hD z3
theorem jn_saveSnapshot (G : fmG) (hl : (fmLn G).stackTraces = false) (h : fmHp) {x : Nat} {a : DA} {S : DS} (hC : CC G h) (hD : DK G h x a S) (hk8 : S.kp ≤ 8)  : Ct G yX1_saveSnapshot (ws_ yX1_saveSnapshot cX1_saveSnapshot 1 (some .int)) { frames := 8, cells := 21, slots := 2987, locals := 214 } [.ref x] h (JPost G h x a 0 (nI (rK S.N)) (dsS S)) (fmNo) := by
  obtain ⟨d, dh, w, pm, X, W, h1, h2, h3, h4, h5, h6, h7, h8, h9⟩ := id hD
  obtain ⟨g, sl, se, pl, pe, gf, sf, pf, K, pk, hM, hR, hse, hpe⟩ := id h5
  obtain ⟨-, eK, eP⟩ := RI_of hR.1 hR.2.1 hR.2.2.1 hR.2.2.2.1
  have hx0 : h x = some (xOb a.far a.qu d a.pa a.sb S.fl S.re S.de w) := h1
  rw [eK]
  refine (ct_X1_saveSnapshot G hl h hC h1 hM).imp (fun v' h' q => ?_) (fun _ _ _ z => z)
  obtain ⟨rfl, dn, g1, sl1, se1, pl1, pe1, hM1, hdn, hs1, hp1, hx', hfr⟩ := q
  obtain ⟨k1, k2, k3, k4⟩ := DK.fr h1 h2 h3 h6 h8 (fun q y hq e1 _ _ _ _ => hfr q y hq e1)
  have hne := ne_e hC h6 hs1
  have hnp := ne_e hC h6 hp1
  exact ⟨rfl, rfl, a.v, ⟨d, dh, .ref dn, pm, X, W, hx', k1, k2, h4, h5.kd k3, h6.oth hx0 (by decide) hfr, fun i hi => (h7 i hi).kd k3, h8.rp h6 h1 (fun q y hq e1 _ _ => hfr q y hq e1), Or.inr ⟨rfl, dn, rfl, g1, sl1, se1, pl1, pe1, gf, sf, pf, K, pk, hM1, hR, hne, hnp⟩⟩, k4⟩
theorem jnT_restoreSnapshot (G : fmG) (hl : (fmLn G).stackTraces = false) (h : fmHp) {x : Nat} {a : DA} {S : DS} (hC : CC G h) (hD : DK G h x a S) (hk8 : S.kp ≤ 8) (hsv : S.sv = true) : Ct G yX1_restoreSnapshot (ws_ yX1_restoreSnapshot cX1_restoreSnapshot 1 (some .int)) { frames := 8, cells := 21, slots := 2987, locals := 214 } [.ref x] h (JPost G h x a 0 (nI (rK S.B)) (dsB S)) (fmNo) := by
  obtain ⟨d, dh, w, pm, X, W, h1, h2, h3, h4, h5, h6, h7, h8, h9⟩ := id hD
  obtain ⟨g, sl, se, pl, pe, gf, sf, pf, K, pk, hM, hR, hse, hpe⟩ := id h5
  obtain ⟨-, eK, eP⟩ := RI_of hR.1 hR.2.1 hR.2.2.1 hR.2.2.2.1
  have hx0 : h x = some (xOb a.far a.qu d a.pa a.sb S.fl S.re S.de w) := h1
  obtain ⟨s, rfl, gB, slB, seB, plB, peB, gfB, sfB, pfB, KB, pkB, hMB, hRB, hseB, hpeB⟩ : ∃ s, w = .ref s ∧ MI G h a.e s S.B := by
    rcases h9 with ⟨z, -⟩ | ⟨-, s, z1, z2⟩
    · rw [hsv] at z; cases z
    · exact ⟨s, z1, z2⟩
  obtain ⟨-, eKB, -⟩ := RI_of hRB.1 hRB.2.1 hRB.2.2.1 hRB.2.2.2.1
  rw [eKB]
  refine (ctT_X1_restoreSnapshot G hl h hC h1 hMB a.e dh S.kp pm h6).imp (fun v' h' q => ?_) (fun _ _ _ z => z)
  obtain ⟨rfl, dn, g1, sl1, se1, pl1, pe1, hM1, ⟨hdn, -, hne, hnp⟩, hs1, hp1, hx', hA', hfr⟩ := q
  obtain ⟨k1, k2, k3, k4⟩ := DK.fr h1 h2 h3 h6 h8 (fun q y hq e1 e2 e3 _ _ => hfr q y hq e1 e2 e3)
  refine ⟨rfl, rfl, a.v, ?_, k4⟩
  rw [show dsB S = _ from if_pos hsv]
  exact ⟨dn, 0, .ref s, pm, X, W, hx', k1, k2, h4, ⟨g1, sl1, se1, pl1, pe1, gfB, sfB, pfB, KB, pkB, hM1, hRB, hne, hnp⟩, hA', fun i hi => absurd hi (Nat.not_lt_zero i), h8.rp h6 h1 hfr, h9.kd k3⟩
theorem jnF_restoreSnapshot (G : fmG) (hl : (fmLn G).stackTraces = false) (h : fmHp) {x : Nat} {a : DA} {S : DS} (hC : CC G h) (hD : DK G h x a S) (hk8 : S.kp ≤ 8) (hsv : S.sv = false) : Ct G yX1_restoreSnapshot (ws_ yX1_restoreSnapshot cX1_restoreSnapshot 1 (some .int)) { frames := 7, cells := 1, slots := 6, locals := 120 } [.ref x] h (fun _ _ => False) (JXp G h x a (exQ "java/lang/IllegalStateException" "java/lang/IllegalStateException") 1 (dsB S)) := by
  obtain ⟨d, dh, w, pm, X, W, h1, h2, h3, h4, h5, h6, h7, h8, h9⟩ := id hD
  obtain ⟨g, sl, se, pl, pe, gf, sf, pf, K, pk, hM, hR, hse, hpe⟩ := id h5
  obtain ⟨-, eK, eP⟩ := RI_of hR.1 hR.2.1 hR.2.2.1 hR.2.2.2.1
  have hw : w = .null := by
    rcases h9 with ⟨-, z⟩ | ⟨z, -⟩
    · exact z
    · rw [hsv] at z; cases z
  subst hw
  refine (ctF_X1_restoreSnapshot G hl h hC h1).imp (fun _ _ q => q.elim) (fun q E h' z => ?_)
  refine ⟨by decide, z.1, ?_⟩
  rw [show dsB S = S from if_neg (by rw [hsv]; exact Bool.false_ne_true)]
  exact JP.kp hD z.2
theorem jn_read (G : fmG) (hl : (fmLn G).stackTraces = false) (h : fmHp) {x : Nat} {a : DA} {S : DS} (hC : CC G h) (hD : DK G h x a S) (hk8 : S.kp ≤ 8) (hlen : S.len ≤ 60) (hch : ∀ i, i < S.len → ∃ k, k < 65536 ∧ S.T i = nI k) : Ct G yX1_read (wsW_ yX1_read cX1_read 4 (some .int) [(35, 40, 43, 26)]) { frames := 18, cells := 4600, slots := 33000, locals := 645 } [.ref x] h (JPost G h x a (rdC S) (nI (pM S)) (rdS S)) (JXp G h x a exC (rdC S) (rdS S)) := by
  obtain ⟨d, dh, w, pm, X, W, h1, h2, h3, h4, h5, h6, h7, h8, h9⟩ := id hD
  obtain ⟨g, sl, se, pl, pe, gf, sf, pf, K, pk, hM, hR, hse, hpe⟩ := id h5
  obtain ⟨-, eK, eP⟩ := RI_of hR.1 hR.2.1 hR.2.2.1 hR.2.2.2.1
  have hx0 : h x = some (xOb a.far a.qu d a.pa a.sb S.fl S.re S.de w) := h1
  refine (ct_X1_read G hl h hC h1 hM a.e dh S.kp pm h6 hk8 (fun i hi => (h7 i hi).isO) hR a.v S.len S.T h8 hlen hch 0 0).imp (fun v' h' q => ?_) (fun q E h' z => ?_)
  · obtain ⟨hw, hT, rfl, dn, g1, sl1, se1, pl1, pe1, gf1, sf1, pf1, K1, pk1, hM1, hR1, hne, hnp, ⟨dh', hA'⟩, hx', ⟨v1, hS1, hv1⟩, hfr⟩ := q
    have ew : pW S = false := hw
    have eT : (pR S).1 = none := hT
    obtain ⟨k1, k2, k3, k4⟩ := DK.fr h1 h2 h3 h6 h8 (fun q y hq e1 e2 e3 e4 _ => hfr q y hq e1 e2 e3 e4)
    have ec : rdC S = 0 := by unfold rdC; rw [ew, eT]; rfl
    refine ⟨ec, rfl, v1, ?_, k4⟩
    have es : rdS S = ((pR S).2, kp1 S.kp, aPush S.A S.N S.kp, S.sv, S.B, S.fl, S.re, S.de, 0, S.T) := by unfold rdS; rw [ew, eT]; rfl
    rw [es]
    refine ⟨dn, dh', w, fPush pm d, X, W, hx', k1, k2, h4, ⟨g1, sl1, se1, pl1, pe1, gf1, sf1, pf1, K1, pk1, hM1, hR1, hne, hnp⟩, hA', fun i hi => ?_, hS1, h9.kd k3⟩
    exact dk_push h5 h7 k3 hi
  · obtain ⟨⟨v1, hS1, hv1⟩, hfr, ⟨hw, rfl, hx'⟩ | ⟨hw, wy, mm, hT, rfl, hx'⟩⟩ := z
    · have ew : pW S = true := hw
      obtain ⟨k1, k2, k3, k4⟩ := DK.fr h1 h2 h3 h6 h8 (fun q y hq e1 _ _ e4 _ => hfr q y hq e1 e4)
      have ec : rdC S = 2 := by unfold rdC; rw [ew]; rfl
      have es : rdS S = (S.N, S.kp, S.A, S.sv, S.B, nI (pE S), S.re, S.de, 0, S.T) := by unfold rdS; rw [ew]; rfl
      refine ⟨by rw [ec]; decide, by rw [ec]; rfl, v1, ?_, k4⟩
      rw [es]
      exact ⟨d, dh, w, pm, X, W, hx', k1, k2, h4, h5.kd k3, h6.txt h8 hx0 (fun q y hq e1 e2 _ => hfr q y hq e1 e2), fun i hi => (h7 i hi).kd k3, hS1, h9.kd k3⟩
    · have ew : pW S = false := hw
      have eT : (pR S).1 = some (wy, mm) := hT
      obtain ⟨k1, k2, k3, k4⟩ := DK.fr h1 h2 h3 h6 h8 (fun q y hq e1 _ _ e4 _ => hfr q y hq e1 e4)
      have ec : rdC S = 3 := by unfold rdC; rw [ew, eT]; rfl
      have es : rdS S = (S.N, S.kp, S.A, S.sv, S.B, S.fl, wy, mm, 0, S.T) := by unfold rdS; rw [ew, eT]; rfl
      refine ⟨by rw [ec]; decide, by rw [ec]; rfl, v1, ?_, k4⟩
      rw [es]
      exact ⟨d, dh, w, pm, X, W, hx', k1, k2, h4, h5.kd k3, h6.txt h8 hx0 (fun q y hq e1 e2 _ => hfr q y hq e1 e2), fun i hi => (h7 i hi).kd k3, hS1, h9.kd k3⟩
