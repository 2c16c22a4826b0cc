/-! THE TWO SIDES: what is told of the desk, what is told of the reference -/
def SR (S : DS) (M : MSt) : Prop :=
  M.2 1 = S.N ∧ M.1 4 = nI S.kp ∧ S.kp ≤ 8 ∧ (∀ i, i < S.kp → M.2 (4 + i) = S.A i) ∧ M.1 7 = bI S.sv ∧ (S.sv = true → M.2 2 = S.B) ∧ M.1 8 = bI false ∧ M.1 12 = nI S.len ∧ S.len ≤ 60 ∧ M.2 14 = S.T ∧
  (∀ i, i < S.len → ∃ k, k < 65536 ∧ S.T i = nI k) ∧ (∃ fo : Option Nat, S.fl = cI fo ∧ ∀ y, fo = some y → y < 2 ^ 31) ∧ M.1 14 = S.fl ∧ M.1 5 = S.re ∧ M.1 6 = S.de ∧ (∃ a, M.1 13 = nI a) ∧ (∃ w, M.1 15 = bI w) ∧ (∃ p, M.1 16 = bI p)
theorem SR.up0 {S : DS} {M : MSt} (h : SR S M) (v : Int32) : SR S (upd M.1 0 v, M.2) := by
  obtain ⟨h1, h2, h3, h4, h5, h6, h7, h8, h9, h10, h11, h12, h13, h14, h15, h16, h17, h18⟩ := h
  exact ⟨h1, h2, h3, h4, h5, h6, h7, h8, h9, h10, h11, h12, h13, h14, h15, h16, h17, h18⟩
theorem SR.ex {S : DS} {s : Nat → Int32} {A A' : Nat → Nat → Int32} (h : SR S (s, A)) (hA : ∀ i, i < 12 ∨ i = 14 → A' i = A i) : SR S (s, A') := by
  obtain ⟨h1, h2, h3, h4, h5, h6, h7, h8, h9, h10, h11, h12, h13, h14, h15, h16, h17, h18⟩ := h
  exact ⟨(hA 1 (by omega)).trans h1, h2, h3, fun i hi => (hA (4 + i) (by omega)).trans (h4 i hi), h5, fun z => (hA 2 (by omega)).trans (h6 z), h7, h8, h9, (hA 14 (by omega)).trans h10, h11, h12, h13, h14, h15, h16, h17, h18⟩
theorem kp1_le {kp : Nat} (h : kp ≤ 8) : kp1 kp ≤ 8 := by unfold kp1; split <;> omega
theorem sHist_push {A : Nat → Nat → Int32} {B : Nat → Nat → Int32} {f g : Nat → Int32} {kp i : Nat} (hk : kp ≤ 8) (hA : ∀ i, i < kp → A (4 + i) = B i) (hf : f = g) (hi : i < kp1 kp) : sHist A f kp (4 + i) = aPush B g kp i := by
  subst hf
  unfold kp1 at hi
  unfold sHist aPush
  by_cases q : kp = 8
  · rw [if_pos q] at hi ⊢
    rw [if_pos q]
    show (if 4 ≤ 4 + i ∧ 4 + i < 11 then A (4 + i + 1) else if 4 + i = 11 then f else A (4 + i)) = _
    by_cases w : i < 7
    · rw [if_pos w, if_pos (by omega)]
      exact hA (i + 1) (by omega)
    · rw [if_neg w, if_neg (by omega), if_pos (by omega)]
  · rw [if_neg q] at hi ⊢
    rw [if_neg q]
    unfold va_up
    by_cases w : i = kp
    · rw [if_pos (by omega), if_pos w]
    · rw [if_neg (by omega), if_neg w]
      exact hA i (by omega)
theorem SR.don {S : DS} {M : MSt} (h : SR S M) (N : Nat → Int32) : SR (dsC S N) (sDon M false S.kp N) ∧ (sDon M false S.kp N).1 0 = nI 0 := by
  obtain ⟨h1, h2, h3, h4, h5, h6, h7, h8, h9, h10, h11, h12, h13, h14, h15, h16, h17, h18⟩ := h
  have e : sDon M false S.kp N = (upd (upd M.1 0 (nI 0)) 4 (nI (kp1 S.kp)), va_up (sHist M.2 (M.2 1) S.kp) 1 N) := rfl
  rw [e]
  have hk1 := kp1_le h3
  refine ⟨⟨(by show va_up (sHist M.2 (M.2 1) S.kp) 1 N 1 = N; exact if_pos rfl), (by show upd (upd M.1 0 (nI 0)) 4 (nI (kp1 S.kp)) 4 = nI (kp1 S.kp); exact upd_eq' rfl), hk1, fun i hi => ?_, h5, fun z => ?_, h7, h8, h9, ?_, h11, h12, h13, h14, h15, h16, h17, h18⟩, rfl⟩
  · show va_up (sHist M.2 (M.2 1) S.kp) 1 N (4 + i) = _
    rw [show va_up (sHist M.2 (M.2 1) S.kp) 1 N (4 + i) = sHist M.2 (M.2 1) S.kp (4 + i) from if_neg (by omega)]
    exact sHist_push h3 h4 h1 hi
  · show va_up (sHist M.2 (M.2 1) S.kp) 1 N 2 = _
    rw [show va_up (sHist M.2 (M.2 1) S.kp) 1 N 2 = sHist M.2 (M.2 1) S.kp 2 from if_neg (by omega), sHist_o h3 (by omega)]
    exact h6 z
  · show va_up (sHist M.2 (M.2 1) S.kp) 1 N 14 = _
    rw [show va_up (sHist M.2 (M.2 1) S.kp) 1 N 14 = sHist M.2 (M.2 1) S.kp 14 from if_neg (by omega), sHist_o h3 (by omega)]
    exact h10
theorem SR.rfd {S : DS} {M : MSt} (h : SR S M) (k : Nat) (w m : Int32) : SR (dsR S w m) (sRfd M k w m) ∧ (sRfd M k w m).1 0 = nI k := by
  obtain ⟨h1, h2, h3, h4, h5, h6, h7, h8, h9, h10, h11, h12, h13, h14, h15, h16, h17, h18⟩ := h
  exact ⟨⟨h1, h2, h3, h4, h5, h6, h7, h8, h9, h10, h11, h12, h13, rfl, rfl, h16, h17, h18⟩, rfl⟩
/-- a change on both sides -/
theorem SR.chg {S : DS} {M : MSt} {r : ARes} {k1 k2 k3 : Nat} (h : SR S M) (hr : r.1 ≤ 3) : SR (cS S r) (aSt M false S.kp k1 k2 k3 r) ∧ (aSt M false S.kp k1 k2 k3 r).1 0 = nI (kf k1 k2 k3 r.1) := by
  obtain ⟨c, ⟨w, m⟩, v, N⟩ := r
  match c, hr with
  | 0, _ => exact h.don N
  | 1, _ => exact ⟨h.up0 _, rfl⟩
  | 2, _ => exact ⟨h.up0 _, rfl⟩
  | 3, _ => exact h.rfd k3 w m
/-- a question on both sides -/
theorem kf_12 {c : Nat} (hc : C12 c) : kf 1 2 9 c = c := by rcases hc with rfl | rfl | rfl <;> rfl
theorem SR.q {S : DS} {M : MSt} {r : ARes} (h : SR S M) (hc : C12 r.1) : SR S (qSt M r) ∧ (qSt M r).1 0 = nI (kf 1 2 9 r.1) := ⟨h.up0 _, by rw [kf_12 hc]; rfl⟩
theorem SR.e {S : DS} {M : MSt} {c : Nat} {X W : Nat → Int32} (h : SR S M) (hc : C12 c) : SR S (upd M.1 0 (nI c), va_up (va_up M.2 12 X) 13 W) ∧ (upd M.1 0 (nI c)) 0 = nI (kf 1 2 9 c) := by
  refine ⟨(h.up0 (nI c)).ex (fun i hi => ?_), by rw [kf_12 hc]; rfl⟩
  unfold va_up
  rw [if_neg (by omega), if_neg (by omega)]
theorem C1.two {c : Nat} (h : C1 c) : C12 c := h.imp id Or.inl
theorem SR.feed {S : DS} {M : MSt} {k : Nat} {ch : Int32} (h : SR S M) (hk : k < 65536) (hch : (ch.toUInt32 % 65536).toInt32 = nI k) : SR (dsF S k) (uFeed M S.len ch) ∧ (uFeed M S.len ch).1 0 = nI (kf 1 2 9 (if S.len < 60 then 0 else 1)) ∧ ((if S.len < 60 then 0 else 1 : Nat) = 0 → (if S.len = 60 then nI 0 else nI (S.len + 1)) = nI (S.len + 1)) := by
  have h0 := h
  obtain ⟨h1, h2, h3, h4, h5, h6, h7, h8, h9, h10, h11, h12, h13, h14, h15, h16, h17, h18⟩ := h
  unfold dsF uFeed
  by_cases q : S.len < 60
  · rw [if_pos q, if_neg (by omega), if_pos q]
    refine ⟨⟨h1, h2, h3, fun i hi => ?_, h5, h6, h7, rfl, q, ?_, fun i hi => ?_, h12, h13, h14, h15, h16, h17, h18⟩, rfl, fun _ => if_neg (by omega)⟩
    · show va_up M.2 14 _ (4 + i) = _
      rw [show va_up M.2 14 (upd (M.2 14) S.len ((ch.toUInt32 % 65536).toInt32)) (4 + i) = M.2 (4 + i) from if_neg (by change i < S.kp at hi; omega)]
      exact h4 i hi
    · show va_up M.2 14 (upd (M.2 14) S.len ((ch.toUInt32 % 65536).toInt32)) 14 = upd S.T S.len (nI k)
      rw [hch, h10]
      exact if_pos rfl
    · show ∃ k', k' < 65536 ∧ upd S.T S.len (nI k) i = nI k'
      by_cases z : i = S.len
      · exact ⟨k, hk, by rw [z]; exact upd_eq' rfl⟩
      · rw [upd_ne' z]
        exact h11 i (by change i < S.len + 1 at hi; omega)
  · rw [if_neg q, if_pos (by omega), if_neg q]
    exact ⟨h0.up0 _, rfl, fun z => by cases z⟩
theorem SR.undo {S : DS} {M : MSt} (h : SR S M) : SR (dsU S) (uUndo M S.kp) ∧ (uUndo M S.kp).1 0 = nI (kf 1 2 9 (if S.kp = 0 then 1 else 0)) ∧ ((if S.kp = 0 then 1 else 0 : Nat) = 0 → (if S.kp = 0 then nI 0 else nI (S.kp - 1)) = nI (S.kp - 1)) := by
  have h0 := h
  obtain ⟨h1, h2, h3, h4, h5, h6, h7, h8, h9, h10, h11, h12, h13, h14, h15, h16, h17, h18⟩ := h
  unfold dsU uUndo
  by_cases q : S.kp = 0
  · rw [if_pos q, if_pos q, if_pos q]
    exact ⟨h0.up0 _, rfl, fun z => by cases z⟩
  · rw [if_neg q, if_neg q, if_neg q]
    refine ⟨⟨?_, rfl, by show S.kp - 1 ≤ 8; omega, fun i hi => ?_, h5, h6, h7, h8, h9, h10, h11, h12, h13, h14, h15, h16, h17, h18⟩, rfl, fun _ => if_neg q⟩
    · show va_up M.2 1 (M.2 (4 + (S.kp - 1))) 1 = S.A (S.kp - 1)
      rw [← h4 (S.kp - 1) (by omega)]
      exact if_pos rfl
    · show va_up M.2 1 (M.2 (4 + (S.kp - 1))) (4 + i) = S.A i
      rw [show va_up M.2 1 (M.2 (4 + (S.kp - 1))) (4 + i) = M.2 (4 + i) from if_neg (by omega)]
      exact h4 i (by change i < S.kp - 1 at hi; omega)
theorem SR.save {S : DS} {M : MSt} (h : SR S M) : SR (dsS S) (uSave M) := by
  obtain ⟨h1, h2, h3, h4, h5, h6, h7, h8, h9, h10, h11, h12, h13, h14, h15, h16, h17, h18⟩ := h
  refine ⟨h1, h2, h3, fun i hi => ?_, rfl, fun _ => ?_, h7, h8, h9, h10, h11, h12, h13, h14, h15, h16, h17, h18⟩
  · show va_up M.2 2 (M.2 1) (4 + i) = S.A i
    rw [show va_up M.2 2 (M.2 1) (4 + i) = M.2 (4 + i) from if_neg (by omega)]
    exact h4 i hi
  · show va_up M.2 2 (M.2 1) 2 = S.N
    rw [← h1]
    exact if_pos rfl
theorem SR.back {S : DS} {M : MSt} (h : SR S M) : SR (dsB S) (uBack M S.sv) ∧ (uBack M S.sv).1 0 = nI (kf 1 2 9 (if S.sv = true then 0 else 1)) := by
  have h0 := h
  obtain ⟨h1, h2, h3, h4, h5, h6, h7, h8, h9, h10, h11, h12, h13, h14, h15, h16, h17, h18⟩ := h
  unfold dsB uBack
  by_cases q : S.sv = true
  · rw [if_pos q, if_pos q, if_pos q]
    refine ⟨⟨?_, rfl, Nat.zero_le 8, fun i hi => absurd hi (Nat.not_lt_zero i), h5, fun z => ?_, h7, h8, h9, h10, h11, h12, h13, h14, h15, h16, h17, h18⟩, rfl⟩
    · show va_up M.2 1 (M.2 2) 1 = S.B
      rw [← h6 q]
      exact if_pos rfl
    · exact h6 q
  · rw [if_neg q, if_neg q, if_neg q]
    exact ⟨h0.up0 _, rfl⟩
/-! reading on both sides -/
theorem pLoop_u {T : Nat → Int32} {len : Nat} : ∀ (n : Nat) {c c' : PCmd} {m : Nat}, c.2.2.2.2 = c'.2.2.2.2 → (pLoop T len n c m).1.2.2.2.2 = (pLoop T len n c' m).1.2.2.2.2 ∧ (pLoop T len n c m).2 = (pLoop T len n c' m).2
  | 0, c, c', m, e => ⟨e, rfl⟩
  | n + 1, c, c', m, e => by
    by_cases hc : c.2.2.2.2.2 = false ∧ c.2.2.2.2.1 < len
    · have hc' : c'.2.2.2.2.2 = false ∧ c'.2.2.2.2.1 < len := by rw [← e]; exact hc
      rw [pLoop_go hc, pLoop_go hc', e]
      exact pLoop_u n (by rw [(pCmd_u (T := T) (len := len) (a := c'.2.2.2.2.1 + pOne (pSee T len c'.2.2.2.2.1 c'.2.2.2.2.2 (nI 59) (nI 59))) (w := !pSee T len c'.2.2.2.2.1 c'.2.2.2.2.2 (nI 59) (nI 59)) c.2.2.1 c'.2.2.1).2.2.1])
    · have hc' : ¬ (c'.2.2.2.2.2 = false ∧ c'.2.2.2.2.1 < len) := by rw [← e]; exact hc
      rw [pLoop_end hc, pLoop_end hc']
      exact ⟨e, rfl⟩
theorem pAll_u {T : Nat → Int32} {len : Nat} (u u' : Int32) : (pAll T len u).1.2.2.2.2 = (pAll T len u').1.2.2.2.2 ∧ (pAll T len u).2 = (pAll T len u').2 := pLoop_u _ (by rw [(pCmd_u (T := T) (len := len) (a := 0) (w := false) u u').2.2.1])
theorem pLoop_hi {T : Nat → Int32} {len : Nat} : ∀ (n : Nat) {c : PCmd} {m : Nat}, (pLoop T len n c m).1.2.2.2.2.1 ≤ c.2.2.2.2.1 + 8 * n
  | 0, c, m => Nat.le_add_right _ _
  | n + 1, c, m => by
    by_cases hc : c.2.2.2.2.2 = false ∧ c.2.2.2.2.1 < len
    · rw [pLoop_go hc]
      refine Nat.le_trans (pLoop_hi n) ?_
      have h1 := pCmd_at (T := T) (len := len) (a := c.2.2.2.2.1 + pOne (pSee T len c.2.2.2.2.1 c.2.2.2.2.2 (nI 59) (nI 59))) (w := !pSee T len c.2.2.2.2.1 c.2.2.2.2.2 (nI 59) (nI 59)) (u := c.2.2.1)
      have h2 := pOne_le (pSee T len c.2.2.2.2.1 c.2.2.2.2.2 (nI 59) (nI 59))
      omega
    · rw [pLoop_end hc]
      exact Nat.le_add_right _ _
theorem pAll_hi {T : Nat → Int32} {len : Nat} {u : Int32} (h : len ≤ 60) : (pAll T len u).1.2.2.2.2.1 ≤ 1000 := by
  have h1 := pLoop_hi (T := T) (len := len) (len + 1) (c := pCmd T len 0 false u) (m := 1)
  have h2 := pCmd_at (T := T) (len := len) (a := 0) (w := false) (u := u)
  unfold pAll
  omega
theorem aCmd_pu (T : Nat → Int32) (len a : Nat) (N : Nat → Int32) (u u' : Int32) : aCmd N (pCmd T len a false u).1 (pCmd T len a false u).2.1 (pCmd T len a false u).2.2.1 (pCmd T len a false u).2.2.2.1 = aCmd N (pCmd T len a false u').1 (pCmd T len a false u').2.1 (pCmd T len a false u').2.2.1 (pCmd T len a false u').2.2.2.1 := by
  obtain ⟨e1, e2, e3, e4⟩ := pCmd_u (T := T) (len := len) (a := a) (w := false) u u'
  rw [e1, e2, e3]
  by_cases h : (pCmd T len a false u').1 = nI 100
  · rw [e4 (e1.trans h)]
  · exact aCmd_u _ _ h
theorem tRun_u {T : Nat → Int32} {len : Nat} : ∀ (n : Nat) {k a : Nat} (u u' : Int32) {N : Nat → Int32}, tRun T len n k a u N = tRun T len n k a u' N
  | 0, _, _, _, _, _ => rfl
  | n + 1, k, a, u, u', N => by
    have e := aCmd_pu T len a N u u'
    have e3 := (pCmd_u (T := T) (len := len) (a := a) (w := false) u u').2.2.1
    by_cases h0 : (aCmd N (pCmd T len a false u).1 (pCmd T len a false u).2.1 (pCmd T len a false u).2.2.1 (pCmd T len a false u).2.2.2.1).1 = 0
    · rw [tRun_0 h0, tRun_0 (by rw [← e]; exact h0), e, e3]
      exact tRun_u n _ _
    · by_cases h2 : (aCmd N (pCmd T len a false u).1 (pCmd T len a false u).2.1 (pCmd T len a false u).2.2.1 (pCmd T len a false u).2.2.2.1).1 ≤ 2
      · rw [tRun_1 h0 h2, tRun_1 (by rw [← e]; exact h0) (by rw [← e]; exact h2)]
      · rw [tRun_3 h2, tRun_3 (by rw [← e]; exact h2), e]
theorem SR.read {S : DS} {s s' : Nat → Int32} {A A' : Nat → Nat → Int32} {u : Int32} {v : Option Value} (h : SR S (s, A)) (hO : rOut s A S.len S.kp u v s' A') : SR (rdS S) (s', A') ∧ s' 0 = nI (kf 9 1 2 (rdC S)) ∧ ∃ b, v = some (.int b) ∧ (rdC S = 0 → b = nI (pM S)) := by
  obtain ⟨h1, h2, h3, h4, h5, h6, h7, h8, h9, h10, h11, h12, h13, h14, h15, h16, h17, h18⟩ := h
  change A 1 = S.N at h1; change s 4 = _ at h2; change ∀ i, i < S.kp → A (4 + i) = S.A i at h4; change s 7 = _ at h5; change S.sv = true → A 2 = S.B at h6; change A 14 = S.T at h10; change s 14 = _ at h13; change s 5 = _ at h14; change s 6 = _ at h15
  obtain ⟨r7, r8, r12, r13, r15, r16, rA, hO⟩ := hO
  rw [h10] at hO
  obtain ⟨eu, em⟩ := pAll_u (T := S.T) (len := S.len) u 0
  rw [eu, em] at hO
  rcases hO with ⟨hw, rfl, e0, e14, e4, e5, e6, rfl⟩ | ⟨hw, e14, R, hR, hO⟩
  · have ew : pW S = true := hw
    have ec : rdC S = 2 := by unfold rdC; rw [ew]; rfl
    have es : rdS S = (S.N, S.kp, S.A, S.sv, S.B, nI (pE S), S.re, S.de, 0, S.T) := by unfold rdS; rw [ew]; rfl
    rw [es, ec]
    refine ⟨⟨h1, e4.trans h2, h3, h4, r7.trans h5, h6, r8, r12, Nat.zero_le 60, h10, fun i hi => absurd hi (Nat.not_lt_zero i), ⟨some (pE S), rfl, fun y hy => ?_⟩, e14, e5.trans h14, e6.trans h15, r13, r15, r16⟩, e0, 0, rfl, fun z => by cases z⟩
    cases hy
    have := pAll_hi (T := S.T) (len := S.len) (u := 0) h9
    show pE S < 2 ^ 31
    unfold pE
    omega
  · have ew : pW S = false := hw
    rw [h1, tRun_u _ (pAll S.T S.len u).1.2.2.1 0] at hR
    have hRp : R = pR S := hR
    subst hRp
    have f2 : A' 2 = A 2 := rA 2 (by omega) (by omega)
    have f14 : A' 14 = A 14 := rA 14 (by omega) (by omega)
    rcases hO with ⟨w, m, eR, rfl, e0, e4, e5, e6, a1, aH⟩ | ⟨eR, rfl, e0, e4, e5, e6, a1, aH⟩
    · have ec : rdC S = 3 := by unfold rdC; rw [ew, eR]; rfl
      have es : rdS S = (S.N, S.kp, S.A, S.sv, S.B, S.fl, w, m, 0, S.T) := by unfold rdS; rw [ew, eR]; rfl
      rw [es, ec]
      exact ⟨⟨a1.trans h1, e4.trans h2, h3, fun i hi => (aH (4 + i) (by omega) (by change i < S.kp at hi; omega)).trans (h4 i hi), r7.trans h5, fun z => f2.trans (h6 z), r8, r12, Nat.zero_le 60, f14.trans h10, fun i hi => absurd hi (Nat.not_lt_zero i), h12, e14.trans h13, e5, e6, r13, r15, r16⟩, e0, 0, rfl, fun z => by cases z⟩
    · have ec : rdC S = 0 := by unfold rdC; rw [ew, eR]; rfl
      have es : rdS S = ((pR S).2, kp1 S.kp, aPush S.A S.N S.kp, S.sv, S.B, S.fl, S.re, S.de, 0, S.T) := by unfold rdS; rw [ew, eR]; rfl
      rw [es, ec]
      have hk1 := kp1_le h3
      exact ⟨⟨a1, e4, hk1, fun i hi => (aH (4 + i) (by omega) (by change i < kp1 S.kp at hi; omega)).trans (sHist_push h3 h4 h1 hi), r7.trans h5, fun z => f2.trans (h6 z), r8, r12, Nat.zero_le 60, f14.trans h10, fun i hi => absurd hi (Nat.not_lt_zero i), h12, e14.trans h13, e5.trans h14, e6.trans h15, r13, r15, r16⟩, e0, _, rfl, fun _ => rfl⟩

