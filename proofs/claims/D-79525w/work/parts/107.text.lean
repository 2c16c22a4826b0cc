/-! TEXTS: what the reference reads -/
/-- the numbers that reading works with: at, isWrong, isPropTold, told, toldOne, toldTwo -/
def pSt (s : Nat → Int32) (a : Nat) (w p : Bool) (t v u : Int32) : Nat → Int32 := fun k =>
  if k = 13 then nI a else if k = 15 then bI w else if k = 16 then bI p else if k = 17 then t else if k = 18 then v else if k = 19 then u else s k
theorem pSt_13 {s : Nat → Int32} {a a' : Nat} {w p : Bool} {t v u : Int32} : upd (pSt s a w p t v u) 13 (nI a') = pSt s a' w p t v u := by
  funext k
  unfold upd pSt
  by_cases h : k = 13
  · rw [if_pos h, if_pos h]
  · rw [if_neg h, if_neg h, if_neg h]
theorem pSt_15 {s : Nat → Int32} {a : Nat} {w w' p : Bool} {t v u : Int32} : upd (pSt s a w p t v u) 15 (bI w') = pSt s a w' p t v u := by
  funext k
  unfold upd pSt
  by_cases h : k = 15
  · subst h; rfl
  · rw [if_neg h, if_neg h, if_neg h]
theorem pSt_16 {s : Nat → Int32} {a : Nat} {w p p' : Bool} {t v u : Int32} : upd (pSt s a w p t v u) 16 (bI p') = pSt s a w p' t v u := by
  funext k
  unfold upd pSt
  by_cases h : k = 16
  · subst h; rfl
  · rw [if_neg h, if_neg h, if_neg h]
theorem pSt_17 {s : Nat → Int32} {a : Nat} {w p : Bool} {t t' v u : Int32} : upd (pSt s a w p t v u) 17 t' = pSt s a w p t' v u := by
  funext k
  unfold upd pSt
  by_cases h : k = 17
  · subst h; rfl
  · rw [if_neg h, if_neg h, if_neg h]
theorem pSt_18 {s : Nat → Int32} {a : Nat} {w p : Bool} {t v v' u : Int32} : upd (pSt s a w p t v u) 18 v' = pSt s a w p t v' u := by
  funext k
  unfold upd pSt
  by_cases h : k = 18
  · subst h; rfl
  · rw [if_neg h, if_neg h, if_neg h]
theorem pSt_19 {s : Nat → Int32} {a : Nat} {w p : Bool} {t v u u' : Int32} : upd (pSt s a w p t v u) 19 u' = pSt s a w p t v u' := by
  funext k
  unfold upd pSt
  by_cases h : k = 19
  · subst h; rfl
  · rw [if_neg h, if_neg h, if_neg h]
theorem pSt_id {s : Nat → Int32} {a : Nat} {w p : Bool} (h13 : s 13 = nI a) (h15 : s 15 = bI w) (h16 : s 16 = bI p) : pSt s a w p (s 17) (s 18) (s 19) = s := by
  funext k
  unfold pSt
  by_cases h : k = 13
  · rw [if_pos h, h, h13]
  · rw [if_neg h]
    by_cases h1 : k = 15
    · rw [if_pos h1, h1, h15]
    · rw [if_neg h1]
      by_cases h2 : k = 16
      · rw [if_pos h2, h2, h16]
      · rw [if_neg h2]
        by_cases h3 : k = 17
        · rw [if_pos h3, h3]
        · rw [if_neg h3]
          by_cases h4 : k = 18
          · rw [if_pos h4, h4]
          · rw [if_neg h4]
            by_cases h5 : k = 19
            · rw [if_pos h5, h5]
            · rw [if_neg h5]
/-- a char as an int -/
def isCh (v : Int32) : Prop := narrow .char (.int v) = .int v ∧ fits .char (.int v) = true
theorem isCh_32 : isCh 32 := ⟨rfl, rfl⟩
def pSee (T : Nat → Int32) (len a : Nat) (w : Bool) (lo hi : Int32) : Bool := !w && (decide (a < len) && sBetween (T a) lo hi)
def pOne (b : Bool) : Nat := if b = true then 1 else 0
def pNum (T : Nat → Int32) (len a : Nat) (w : Bool) : Int32 × Nat × Bool :=
  if pSee T len a w (nI 48) (nI 57) = true then
    (if pSee T len (a + 1) w (nI 48) (nI 57) = true then (nI 10 * (nI (10 * 0) + T a - nI 48) + T (a + 1) - nI 48, a + 1 + 1, w) else (nI (10 * 0) + T a - nI 48, a + 1, w))
  else (nI 0, a, true)
def pLet (T : Nat → Int32) (len a : Nat) (w : Bool) : Int32 := if w = true then nI 32 else if a < len then T a else nI 32
theorem pLet_ch {T : Nat → Int32} {len a : Nat} {w : Bool} (h : ∀ i, i < len → isCh (T i)) : isCh (pLet T len a w) := by
  unfold pLet
  split
  · exact isCh_32
  · split
    · exact h _ (by assumption)
    · exact isCh_32
def sLet (t : Int32) : Bool := decide (t = nI 115) || (decide (t = nI 100) || (decide (t = nI 112) || (decide (t = nI 117) || (decide (t = nI 99) || (decide (t = nI 116) || decide (t = nI 110))))))
/-- a command: told, one, two, with a prop, where it ends, whether it is wrong; u is what two was -/
abbrev PCmd : Type := Int32 × Int32 × Int32 × Bool × Nat × Bool
def pCmd (T : Nat → Int32) (len a : Nat) (w : Bool) (u : Int32) : PCmd :=
  let t := pLet T len a w
  let w1 := w || !sLet t
  let n1 := pNum T len (a + pOne (!w1)) w1
  if t = nI 100 then
    let k := pSee T len n1.2.1 n1.2.2 (nI 44) (nI 44)
    let n2 := pNum T len (n1.2.1 + pOne k) (n1.2.2 || !k)
    let pr := pSee T len n2.2.1 n2.2.2 (nI 112) (nI 112)
    (t, n1.1, n2.1, pr, n2.2.1 + pOne pr, n2.2.2)
  else (t, n1.1, u, false, n1.2.1, n1.2.2)
def pStC (s : Nat → Int32) (c : PCmd) : Nat → Int32 := pSt s c.2.2.2.2.1 c.2.2.2.2.2 c.2.2.2.1 c.1 c.2.1 c.2.2.1
/-- how a text's commands are counted: behind the command c, with many so far -/
def pLoop (T : Nat → Int32) (len : Nat) : Nat → PCmd → Nat → PCmd × Nat
  | 0, c, many => (c, many)
  | n + 1, c, many =>
    if c.2.2.2.2.2 = false ∧ c.2.2.2.2.1 < len then
      let k := pSee T len c.2.2.2.2.1 c.2.2.2.2.2 (nI 59) (nI 59)
      pLoop T len n (pCmd T len (c.2.2.2.2.1 + pOne k) (!k) c.2.2.1) (many + 1)
    else (c, many)
def pAll (T : Nat → Int32) (len : Nat) (u : Int32) : PCmd × Nat := pLoop T len (len + 1) (pCmd T len 0 false u) 1
theorem pNum_le {T : Nat → Int32} {len a : Nat} {w : Bool} : a ≤ (pNum T len a w).2.1 := by
  unfold pNum
  split
  · split
    · show a ≤ a + 1 + 1; omega
    · show a ≤ a + 1; omega
  · exact Nat.le_refl _
theorem pNum_w {T : Nat → Int32} {len a : Nat} {w : Bool} (h : (pNum T len a w).2.2 = false) : a < (pNum T len a w).2.1 ∧ (pNum T len a w).2.1 ≤ len ∧ w = false := by
  unfold pNum at h ⊢
  have hs : ∀ {b w'}, pSee T len b w' (nI 48) (nI 57) = true → b < len := fun {b w'} q => by
    unfold pSee at q
    simp only [Bool.and_eq_true, decide_eq_true_eq] at q
    exact q.2.1
  split
  · rename_i q1
    split
    · rename_i q2
      rw [if_pos q1, if_pos q2] at h
      have := hs q2
      exact ⟨by show a < a + 1 + 1; omega, by show a + 1 + 1 ≤ len; omega, h⟩
    · rename_i q2
      rw [if_pos q1, if_neg q2] at h
      have := hs q1
      exact ⟨by show a < a + 1; omega, by show a + 1 ≤ len; omega, h⟩
  · rename_i q1
    rw [if_neg q1] at h
    cases h
theorem pOne_le (b : Bool) : pOne b ≤ 1 := by unfold pOne; split <;> omega
theorem pSee_one {T : Nat → Int32} {len a : Nat} {w : Bool} {lo hi : Int32} (h : a ≤ len) : a + pOne (pSee T len a w lo hi) ≤ len := by
  unfold pOne
  split
  · rename_i q
    unfold pSee at q
    simp only [Bool.and_eq_true, decide_eq_true_eq] at q
    exact q.2.1
  · exact h
/-- a command moves on, or is wrong -/
theorem pCmd_end {T : Nat → Int32} {len a : Nat} {w : Bool} {u : Int32} (h : (pCmd T len a w u).2.2.2.2.2 = false) : a < (pCmd T len a w u).2.2.2.2.1 ∧ (pCmd T len a w u).2.2.2.2.1 ≤ len := by
  unfold pCmd at h ⊢
  simp only at h ⊢
  split
  · rename_i q
    rw [if_pos q] at h
    have h1 := pNum_w h
    have h2 := Nat.le_trans (Nat.le_trans (Nat.le_add_right _ _) (pNum_le (T := T) (len := len) (a := a + pOne (!(w || !sLet (pLet T len a w)))) (w := w || !sLet (pLet T len a w)))) (Nat.le_add_right _ (pOne (pSee T len (pNum T len (a + pOne (!(w || !sLet (pLet T len a w)))) (w || !sLet (pLet T len a w))).2.1 (pNum T len (a + pOne (!(w || !sLet (pLet T len a w)))) (w || !sLet (pLet T len a w))).2.2 (nI 44) (nI 44))))
    refine ⟨Nat.lt_of_lt_of_le (Nat.lt_of_le_of_lt h2 h1.1) (Nat.le_add_right _ _), ?_⟩
    exact pSee_one h1.2.1
  · rename_i q
    rw [if_neg q] at h
    have h1 := pNum_w h
    exact ⟨Nat.lt_of_le_of_lt (Nat.le_add_right _ _) h1.1, h1.2.1⟩
theorem pNum_le2 {T : Nat → Int32} {len a : Nat} {w : Bool} : (pNum T len a w).2.1 ≤ a + 2 := by
  unfold pNum
  split
  · split
    · exact Nat.le_refl _
    · exact Nat.le_succ _
  · exact Nat.le_add_right _ _
theorem pCmd_at {T : Nat → Int32} {len a : Nat} {w : Bool} {u : Int32} : (pCmd T len a w u).2.2.2.2.1 ≤ a + 7 := by
  unfold pCmd
  simp only
  have h1 := pOne_le (!(w || !sLet (pLet T len a w)))
  have h2 := pNum_le2 (T := T) (len := len) (a := a + pOne (!(w || !sLet (pLet T len a w)))) (w := w || !sLet (pLet T len a w))
  split
  · generalize (pNum T len (a + pOne (!(w || !sLet (pLet T len a w)))) (w || !sLet (pLet T len a w))) = n1 at h2 ⊢
    have h3 := pOne_le (pSee T len n1.2.1 n1.2.2 (nI 44) (nI 44))
    have h4 := pNum_le2 (T := T) (len := len) (a := n1.2.1 + pOne (pSee T len n1.2.1 n1.2.2 (nI 44) (nI 44))) (w := n1.2.2 || !pSee T len n1.2.1 n1.2.2 (nI 44) (nI 44))
    generalize pNum T len (n1.2.1 + pOne (pSee T len n1.2.1 n1.2.2 (nI 44) (nI 44))) (n1.2.2 || !pSee T len n1.2.1 n1.2.2 (nI 44) (nI 44)) = n2 at h4 ⊢
    have h5 := pOne_le (pSee T len n2.2.1 n2.2.2 (nI 112) (nI 112))
    show n2.2.1 + pOne (pSee T len n2.2.1 n2.2.2 (nI 112) (nI 112)) ≤ a + 7
    omega
  · show (pNum T len _ _).2.1 ≤ a + 7
    omega
theorem pLoop_end {T : Nat → Int32} {len n : Nat} {c : PCmd} {many : Nat} (h : ¬ (c.2.2.2.2.2 = false ∧ c.2.2.2.2.1 < len)) : pLoop T len n c many = (c, many) := by
  cases n with
  | zero => rfl
  | succ n => exact if_neg h
theorem pLoop_go {T : Nat → Int32} {len n : Nat} {c : PCmd} {many : Nat} (h : c.2.2.2.2.2 = false ∧ c.2.2.2.2.1 < len) : pLoop T len (n + 1) c many = pLoop T len n (pCmd T len (c.2.2.2.2.1 + pOne (pSee T len c.2.2.2.2.1 c.2.2.2.2.2 (nI 59) (nI 59))) (!pSee T len c.2.2.2.2.1 c.2.2.2.2.2 (nI 59) (nI 59)) c.2.2.1) (many + 1) := if_pos h
