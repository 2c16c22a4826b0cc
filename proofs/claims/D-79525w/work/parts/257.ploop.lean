/-! one step of the reference's count of commands -/
theorem pCmd_at0 {T : Nat → Int32} {len a : Nat} (u : Int32) : (pCmd T len a false u).2.2.2.2 = (pCmd T len a false 0).2.2.2.2 := by
  obtain ⟨-, -, e, -⟩ := pCmd_u (T := T) (len := len) (a := a) (w := false) u 0
  rw [e]
/-- at a sign that isn't ';' the text is wrong there -/
theorem pLoop_no {T : Nat → Int32} {len n m : Nat} {c : PCmd} (h : c.2.2.2.2.2 = false ∧ c.2.2.2.2.1 < len) (hk : pSee T len c.2.2.2.2.1 false (nI 59) (nI 59) = false) : (pLoop T len (n + 2) c m).1.2.2.2.2.2 = true ∧ (pLoop T len (n + 2) c m).1.2.2.2.2.1 = c.2.2.2.2.1 := by
  rw [pLoop_go h, h.1, hk]
  have hw : (pCmd T len (c.2.2.2.2.1 + pOne false) (!false) c.2.2.1).2.2.2.2.2 = true ∧ (pCmd T len (c.2.2.2.2.1 + pOne false) (!false) c.2.2.1).2.2.2.2.1 = c.2.2.2.2.1 := by
    have hn : ¬ pLet T len c.2.2.2.2.1 true = nI 100 := by show ¬ nI 32 = nI 100; decide
    unfold pCmd
    simp only [Bool.not_false, Bool.true_or, Bool.not_true, show pOne false = 0 from rfl, Nat.add_zero, pNum_w9]
    rw [if_neg hn]
    exact ⟨rfl, rfl⟩
  rw [pLoop_end (fun z => by rw [hw.1] at z; cases z.1)]
  exact hw
theorem pLoop_yes {T : Nat → Int32} {len n m : Nat} {c : PCmd} (h : c.2.2.2.2.2 = false ∧ c.2.2.2.2.1 < len) (hk : pSee T len c.2.2.2.2.1 false (nI 59) (nI 59) = true) : pLoop T len (n + 1) c m = pLoop T len n (pCmd T len (c.2.2.2.2.1 + 1) false c.2.2.1) (m + 1) := by
  rw [pLoop_go h, h.1, hk]
  rfl
