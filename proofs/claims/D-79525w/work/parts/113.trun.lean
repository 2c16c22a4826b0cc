/-! A TEXT is carried out -/
theorem pSt_o {s : Nat → Int32} {a k : Nat} {w p : Bool} {t v u x : Int32} (h : k ≠ 13 ∧ k ≠ 15 ∧ k ≠ 16 ∧ k ≠ 17 ∧ k ≠ 18 ∧ k ≠ 19) : upd (pSt s a w p t v u) k x = pSt (upd s k x) a w p t v u := by
  funext q
  by_cases hq : q = k
  · subst hq
    rw [show upd (pSt s a w p t v u) q x q = x from if_pos rfl]
    unfold pSt
    rw [if_neg h.1, if_neg h.2.1, if_neg h.2.2.1, if_neg h.2.2.2.1, if_neg h.2.2.2.2.1, if_neg h.2.2.2.2.2]
    exact (if_pos rfl).symm
  · rw [show upd (pSt s a w p t v u) k x q = pSt s a w p t v u q from if_neg hq]
    unfold pSt
    rw [show upd s k x q = s q from if_neg hq]
def pGood (T : Nat → Int32) (len : Nat) : Nat → Nat → Int32 → Prop
  | 0, _, _ => True
  | n + 1, a, u => (pCmd T len a false u).2.2.2.2.2 = false ∧ pGood T len n ((pCmd T len a false u).2.2.2.2.1 + 1) (pCmd T len a false u).2.2.1
def tRun (T : Nat → Int32) (len : Nat) : Nat → Nat → Nat → Int32 → (Nat → Int32) → Option (Int32 × Int32) × (Nat → Int32)
  | 0, _, _, _, N => (none, N)
  | n + 1, k, a, u, N =>
    let c := pCmd T len a false u
    let r := aCmd N c.1 c.2.1 c.2.2.1 c.2.2.2.1
    if r.1 = 0 then tRun T len n (k + 1) (c.2.2.2.2.1 + 1) c.2.2.1 r.2.2.2 else if r.1 ≤ 2 then (some (nI 20, nI k), N) else (some r.2.1, N)
/-- but for two, a command doesn't hang on what two was; nor two, where it counts -/
theorem pCmd_u {T : Nat → Int32} {len a : Nat} {w : Bool} (u u' : Int32) : (pCmd T len a w u).1 = (pCmd T len a w u').1 ∧ (pCmd T len a w u).2.1 = (pCmd T len a w u').2.1 ∧ (pCmd T len a w u).2.2.2 = (pCmd T len a w u').2.2.2 ∧ ((pCmd T len a w u).1 = nI 100 → (pCmd T len a w u).2.2.1 = (pCmd T len a w u').2.2.1) := by
  unfold pCmd
  simp only
  by_cases h : pLet T len a w = nI 100
  · rw [if_pos h, if_pos h]
    exact ⟨rfl, rfl, rfl, fun _ => rfl⟩
  · rw [if_neg h, if_neg h]
    exact ⟨rfl, rfl, rfl, fun q => absurd q h⟩
theorem pGood_u {T : Nat → Int32} {len : Nat} : ∀ {n a : Nat} (u u' : Int32), pGood T len n a u → pGood T len n a u'
  | 0, _, _, _, _ => trivial
  | n + 1, a, u, u', h => by
    obtain ⟨h1, h2⟩ := h
    obtain ⟨-, -, e, -⟩ := pCmd_u (T := T) (len := len) (a := a) (w := false) u u'
    refine ⟨by rw [← e]; exact h1, ?_⟩
    rw [← e]
    exact pGood_u _ _ h2
theorem pNum_t {T : Nat → Int32} {len a : Nat} : (pNum T len a true).2.2 = true := by
  unfold pNum
  have : pSee T len a true (nI 48) (nI 57) = false := rfl
  rw [if_neg (by rw [this]; exact Bool.false_ne_true)]
theorem pCmd_t {T : Nat → Int32} {len a : Nat} {u : Int32} : (pCmd T len a true u).2.2.2.2.2 = true := by
  unfold pCmd
  simp only
  split
  · show (pNum T len _ (_ || _)).2.2 = true
    rw [show (true || !sLet (pLet T len a true)) = true from rfl, pNum_t, Bool.true_or]
    exact pNum_t
  · show (pNum T len (a + pOne (!(true || !sLet (pLet T len a true)))) true).2.2 = true
    exact pNum_t
theorem pLoop_good {T : Nat → Int32} {len : Nat} : ∀ {n : Nat} {c : PCmd} {many : Nat}, (pLoop T len n c many).1.2.2.2.2.2 = false → c.2.2.2.2.2 = false ∧ ∃ r, (pLoop T len n c many).2 = many + r ∧ pGood T len r (c.2.2.2.2.1 + 1) c.2.2.1
  | 0, c, many, h => ⟨h, 0, rfl, trivial⟩
  | n + 1, c, many, h => by
    by_cases hc : c.2.2.2.2.2 = false ∧ c.2.2.2.2.1 < len
    · rw [pLoop_go hc] at h ⊢
      obtain ⟨h1, r, h2, h3⟩ := pLoop_good h
      cases hk : pSee T len c.2.2.2.2.1 c.2.2.2.2.2 (nI 59) (nI 59) with
      | false =>
        rw [hk] at h1
        have : (pCmd T len (c.2.2.2.2.1 + pOne false) (!false) c.2.2.1).2.2.2.2.2 = true := pCmd_t
        rw [this] at h1
        cases h1
      | true =>
        rw [hk] at h1 h3
        refine ⟨hc.1, r + 1, by rw [← hk, h2]; omega, h1, h3⟩
    · rw [pLoop_end hc] at h ⊢
      exact ⟨h, 0, rfl, trivial⟩
theorem pAll_good {T : Nat → Int32} {len : Nat} {u : Int32} (h : (pAll T len u).1.2.2.2.2.2 = false) (u' : Int32) : pGood T len (pAll T len u).2 0 u' := by
  obtain ⟨h1, r, h2, h3⟩ := pLoop_good h
  refine pGood_u u u' ?_
  unfold pAll
  rw [h2, Nat.add_comm]
  exact ⟨h1, h3⟩
theorem pCmd_let {T : Nat → Int32} {len a : Nat} {w : Bool} {u : Int32} (h : (pCmd T len a w u).2.2.2.2.2 = false) : sLet (pCmd T len a w u).1 = true := by
  have key : ∀ b, (pNum T len (a + pOne (!b)) b).2.2 = false → b = false := fun b q => (pNum_w q).2.2
  have ht : (pCmd T len a w u).1 = pLet T len a w := by
    unfold pCmd
    simp only
    split <;> rfl
  rw [ht]
  have hw : (w || !sLet (pLet T len a w)) = false := by
    refine key _ ?_
    unfold pCmd at h
    simp only at h
    by_cases e : pLet T len a w = nI 100
    · rw [if_pos e] at h
      have := (pNum_w h).2.2
      exact (Bool.or_eq_false_iff.mp this).1
    · rw [if_neg e] at h
      exact h
  have := (Bool.or_eq_false_iff.mp hw).2
  rwa [Bool.not_eq_false'] at this
theorem tRun_0 {T : Nat → Int32} {len n k a : Nat} {u : Int32} {N : Nat → Int32} (h : (aCmd N (pCmd T len a false u).1 (pCmd T len a false u).2.1 (pCmd T len a false u).2.2.1 (pCmd T len a false u).2.2.2.1).1 = 0) : tRun T len (n + 1) k a u N = tRun T len n (k + 1) ((pCmd T len a false u).2.2.2.2.1 + 1) (pCmd T len a false u).2.2.1 (aCmd N (pCmd T len a false u).1 (pCmd T len a false u).2.1 (pCmd T len a false u).2.2.1 (pCmd T len a false u).2.2.2.1).2.2.2 := if_pos h
theorem tRun_1 {T : Nat → Int32} {len n k a : Nat} {u : Int32} {N : Nat → Int32} (h : (aCmd N (pCmd T len a false u).1 (pCmd T len a false u).2.1 (pCmd T len a false u).2.2.1 (pCmd T len a false u).2.2.2.1).1 ≠ 0) (h2 : (aCmd N (pCmd T len a false u).1 (pCmd T len a false u).2.1 (pCmd T len a false u).2.2.1 (pCmd T len a false u).2.2.2.1).1 ≤ 2) : tRun T len (n + 1) k a u N = (some (nI 20, nI k), N) := (if_neg h).trans (if_pos h2)
theorem tRun_3 {T : Nat → Int32} {len n k a : Nat} {u : Int32} {N : Nat → Int32} (h2 : ¬ (aCmd N (pCmd T len a false u).1 (pCmd T len a false u).2.1 (pCmd T len a false u).2.2.1 (pCmd T len a false u).2.2.2.1).1 ≤ 2) : tRun T len (n + 1) k a u N = (some (aCmd N (pCmd T len a false u).1 (pCmd T len a false u).2.1 (pCmd T len a false u).2.2.1 (pCmd T len a false u).2.2.2.1).2.1, N) := (if_neg (fun q => h2 (by rw [q]; exact Nat.zero_le _))).trans (if_neg h2)
/-- what reading a text leaves: s, A before; s', A' after; v the answer -/
def rOut (s : Nat → Int32) (A : Nat → Nat → Int32) (len kp : Nat) (u : Int32) (v : Option Value) (s' : Nat → Int32) (A' : Nat → Nat → Int32) : Prop :=
  s' 7 = s 7 ∧ s' 8 = bI false ∧ s' 12 = nI 0 ∧ (∃ a, s' 13 = nI a) ∧ (∃ w, s' 15 = bI w) ∧ (∃ p, s' 16 = bI p) ∧ (∀ i, i < 16 → ¬ (i = 1 ∨ 4 ≤ i ∧ i < 12 ∨ i = 15) → A' i = A i) ∧
  (((pAll (A 14) len u).1.2.2.2.2.2 = true ∧ v = some (.int 0) ∧ s' 0 = nI 1 ∧ s' 14 = nI (pAll (A 14) len u).1.2.2.2.2.1 ∧ s' 4 = s 4 ∧ s' 5 = s 5 ∧ s' 6 = s 6 ∧ A' = A) ∨
   ((pAll (A 14) len u).1.2.2.2.2.2 = false ∧ s' 14 = s 14 ∧ ∃ R, R = tRun (A 14) len (pAll (A 14) len u).2 0 0 (pAll (A 14) len u).1.2.2.1 (A 1) ∧
     ((∃ w m, R.1 = some (w, m) ∧ v = some (.int 0) ∧ s' 0 = nI 2 ∧ s' 4 = s 4 ∧ s' 5 = w ∧ s' 6 = m ∧ A' 1 = A 1 ∧ ∀ i, 4 ≤ i → i < 12 → A' i = A i) ∨
      (R.1 = none ∧ v = some (.int (nI (pAll (A 14) len u).2)) ∧ s' 0 = nI 0 ∧ s' 4 = nI (kp1 kp) ∧ s' 5 = s 5 ∧ s' 6 = s 6 ∧ A' 1 = R.2 ∧ ∀ i, 4 ≤ i → i < 12 → A' i = sHist A (A 1) kp i))))
theorem sHist_e {A B : Nat → Nat → Int32} {f : Nat → Int32} {kp : Nat} (h : ∀ q, 4 ≤ q → q < 12 → A q = B q) {i : Nat} (h1 : 4 ≤ i) (h2 : i < 12) : sHist A f kp i = sHist B f kp i := by
  unfold sHist
  split
  · show (if 4 ≤ i ∧ i < 11 then A (i + 1) else if i = 11 then f else A i) = (if 4 ≤ i ∧ i < 11 then B (i + 1) else if i = 11 then f else B i)
    by_cases q : 4 ≤ i ∧ i < 11
    · rw [if_pos q, if_pos q, h (i + 1) (by omega) (by omega)]
    · rw [if_neg q, if_neg q, if_pos (by omega), if_pos (by omega)]
  · unfold va_up
    split
    · rfl
    · exact h i h1 h2
theorem pLoop_many {T : Nat → Int32} {len : Nat} : ∀ (n : Nat) {c : PCmd} {many : Nat}, (pLoop T len n c many).2 ≤ many + n
  | 0, _, _ => Nat.le_refl _
  | n + 1, c, many => by
    unfold pLoop
    split
    · exact Nat.le_trans (pLoop_many n) (by omega)
    · exact Nat.le_add_right _ _
theorem pAll_many {T : Nat → Int32} {len : Nat} {u : Int32} (h : len ≤ 60) : (pAll T len u).2 ≤ 62 := Nat.le_trans (pLoop_many (len + 1)) (by omega)
