/-! letters -/
theorem sLet_az {t : Int32} (h : sLet t = true) : sBetween t (nI 97) (nI 122) = true := by
  unfold sLet at h
  rw [Bool.or_eq_true, Bool.or_eq_true, Bool.or_eq_true, Bool.or_eq_true, Bool.or_eq_true, Bool.or_eq_true] at h
  simp only [decide_eq_true_eq] at h
  rcases h with h | h | h | h | h | h | h <;> · rw [h]; decide
theorem sLet_s {t : Int32} (h : sLet t = false) : sBetween t (nI 115) (nI 115) = false := by
  cases e : sBetween t (nI 115) (nI 115) with
  | false => rfl
  | true =>
    unfold sBetween at e
    rw [Bool.and_eq_true, Bool.not_eq_true', Bool.not_eq_true', decide_eq_false_iff_not, decide_eq_false_iff_not] at e
    have : t = nI 115 := Int32.le_antisymm (Int32.not_lt.mp e.2) (Int32.not_lt.mp e.1)
    rw [this] at h
    exact absurd h (by decide)
