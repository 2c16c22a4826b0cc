/-! PURE LAW: the reference's command is the component's -/
theorem pLet_in {T : Nat → Int32} {len a : Nat} (h : a < len) : pLet T len a false = T a := by
  unfold pLet
  rw [if_neg Bool.false_ne_true, if_pos h]
theorem pLet_out {T : Nat → Int32} {len a : Nat} (h : ¬ a < len) : pLet T len a false = nI 32 := by
  unfold pLet
  rw [if_neg Bool.false_ne_true, if_neg h]
theorem pCmd_one {T : Nat → Int32} {len a : Nat} {u : Int32} (hal : a < len) (hlt : sLet (T a) = true) (hnd : T a ≠ nI 100) : pCmd T len a false u = (T a, (pNum T len (a + 1) false).1, u, false, (pNum T len (a + 1) false).2.1, (pNum T len (a + 1) false).2.2) := by
  unfold pCmd
  simp only [pLet_in hal, hlt, Bool.not_true, Bool.false_or, Bool.not_false, show pOne true = 1 from rfl]
  rw [if_neg hnd]
theorem pCmd_dig {T : Nat → Int32} {len a : Nat} {u : Int32} (hal : a < len) (ht : T a = nI 100) : pCmd T len a false u = (nI 100, (pDig T len (a + 1)).1, (pDig T len (a + 1)).2.1, (pDig T len (a + 1)).2.2.1, (pDig T len (a + 1)).2.2.2.1, (pDig T len (a + 1)).2.2.2.2) := by
  have hlt : sLet (nI 100) = true := by decide
  unfold pCmd pDig
  simp only [pLet_in hal, ht, hlt, Bool.not_true, Bool.false_or, Bool.not_false, show pOne true = 1 from rfl]
  rw [if_pos trivial]
theorem pCmd_bad {T : Nat → Int32} {len a : Nat} {u : Int32} (hno : ¬ (a < len ∧ sLet (T a) = true)) : (pCmd T len a false u).2.2.2.2.2 = true ∧ (pCmd T len a false u).2.2.2.2.1 = a := by
  have hs : sLet (pLet T len a false) = false := by
    by_cases h : a < len
    · rw [pLet_in h]; exact Bool.eq_false_iff.mpr fun z => hno ⟨h, z⟩
    · rw [pLet_out h]; decide
  have hn : pLet T len a false ≠ nI 100 := fun z => by rw [z] at hs; exact absurd hs (by decide)
  unfold pCmd
  simp only [hs, Bool.not_false, Bool.false_or, Bool.not_true, show pOne false = 0 from rfl, Nat.add_zero, pNum_w9]
  rw [if_neg hn]
  exact ⟨rfl, rfl⟩
