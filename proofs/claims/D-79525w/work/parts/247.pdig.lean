/-! the numbers of digging, told once: one, two, with a prop, where it ends, whether it is wrong -/
def pDig (T : Nat → Int32) (len a : Nat) : Int32 × Int32 × Bool × Nat × Bool :=
  let n1 := pNum T len a false
  let k := pSee T len n1.2.1 n1.2.2 (nI 44) (nI 44)
  let n2 := pNum T len (n1.2.1 + pOne k) (n1.2.2 || !k)
  let pr := pSee T len n2.2.1 n2.2.2 (nI 112) (nI 112)
  (n1.1, n2.1, pr, n2.2.1 + pOne pr, n2.2.2)
theorem pSee_w (T : Nat → Int32) (len a : Nat) (lo hi : Int32) : pSee T len a true lo hi = false := rfl
theorem pNum_w9 (T : Nat → Int32) (len a : Nat) : pNum T len a true = (nI 0, a, true) := by
  unfold pNum
  rw [pSee_w, if_neg Bool.false_ne_true]
theorem pDig_1 {T : Nat → Int32} {len a : Nat} (h : (pNum T len a false).2.2 = true) : (pDig T len a).2.2.2.2 = true ∧ (pDig T len a).2.2.2.1 = (pNum T len a false).2.1 := by
  unfold pDig
  simp only [h, pSee_w, Bool.true_or, pNum_w9]
  exact ⟨trivial, rfl⟩
theorem pDig_2 {T : Nat → Int32} {len a : Nat} (h : (pNum T len a false).2.2 = false) (hk : pSee T len (pNum T len a false).2.1 false (nI 44) (nI 44) = false) : (pDig T len a).2.2.2.2 = true ∧ (pDig T len a).2.2.2.1 = (pNum T len a false).2.1 := by
  unfold pDig
  simp only [h, hk, Bool.false_or, Bool.not_false, pNum_w9, pSee_w]
  exact ⟨trivial, rfl⟩
theorem pDig_3 {T : Nat → Int32} {len a : Nat} (h : (pNum T len a false).2.2 = false) (hk : pSee T len (pNum T len a false).2.1 false (nI 44) (nI 44) = true) (h2 : (pNum T len ((pNum T len a false).2.1 + 1) false).2.2 = true) : (pDig T len a).2.2.2.2 = true ∧ (pDig T len a).2.2.2.1 = (pNum T len ((pNum T len a false).2.1 + 1) false).2.1 := by
  unfold pDig
  simp only [h, hk, Bool.false_or, Bool.not_true, show pOne true = 1 from rfl, h2, pSee_w]
  exact ⟨trivial, rfl⟩
theorem pDig_4 {T : Nat → Int32} {len a : Nat} (h : (pNum T len a false).2.2 = false) (hk : pSee T len (pNum T len a false).2.1 false (nI 44) (nI 44) = true) (h2 : (pNum T len ((pNum T len a false).2.1 + 1) false).2.2 = false) : pDig T len a = ((pNum T len a false).1, (pNum T len ((pNum T len a false).2.1 + 1) false).1, pSee T len (pNum T len ((pNum T len a false).2.1 + 1) false).2.1 false (nI 112) (nI 112), (pNum T len ((pNum T len a false).2.1 + 1) false).2.1 + pOne (pSee T len (pNum T len ((pNum T len a false).2.1 + 1) false).2.1 false (nI 112) (nI 112)), false) := by
  unfold pDig
  simp only [h, hk, Bool.false_or, Bool.not_true, show pOne true = 1 from rfl, h2]
