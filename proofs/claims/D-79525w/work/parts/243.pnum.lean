/-! a number of a text, told once -/
theorem pNum_0 {T : Nat → Int32} {len a : Nat} (hs : pSee T len a false (nI 48) (nI 57) = false) : pNum T len a false = (nI 0, a, true) := by
  unfold pNum
  rw [if_neg (by rw [hs]; exact Bool.false_ne_true)]
theorem pNum_1 {T : Nat → Int32} {len a : Nat} (hs : pSee T len a false (nI 48) (nI 57) = true) (hs2 : pSee T len (a + 1) false (nI 48) (nI 57) = false) : pNum T len a false = (T a - nI 48, a + 1, false) := by
  unfold pNum
  rw [if_pos hs, if_neg (by rw [hs2]; exact Bool.false_ne_true)]
  show ((0 : Int32) + T a - nI 48, a + 1, false) = _
  rw [Int32.zero_add]
theorem pNum_2 {T : Nat → Int32} {len a : Nat} (hs : pSee T len a false (nI 48) (nI 57) = true) (hs2 : pSee T len (a + 1) false (nI 48) (nI 57) = true) : pNum T len a false = (nI 10 * (T a - nI 48) + T (a + 1) - nI 48, a + 2, false) := by
  unfold pNum
  rw [if_pos hs, if_pos hs2]
  show (nI 10 * ((0 : Int32) + T a - nI 48) + T (a + 1) - nI 48, a + 1 + 1, false) = _
  rw [Int32.zero_add]
