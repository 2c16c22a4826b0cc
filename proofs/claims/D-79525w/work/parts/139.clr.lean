/-! CLEARING a deque -/
def clr (g : Nat → Option Nat) (i t : Nat) : Nat → Option Nat := fun k => if i ≤ k ∧ k < t then none else g k
theorem clr_0 (g : Nat → Option Nat) (t : Nat) : clr g t t = g := funext fun k => if_neg (by omega)
theorem clr_1 (g : Nat → Option Nat) {i t : Nat} (h : i < t) : clr (va_up g i none) (i + 1) t = clr g i t := by
  funext k
  unfold clr va_up
  by_cases h1 : k = i
  · subst h1
    rw [if_neg (by omega), if_pos rfl, if_pos (by omega)]
  · by_cases h2 : i + 1 ≤ k ∧ k < t
    · rw [if_pos h2, if_pos (by omega)]
    · rw [if_neg h2, if_neg h1, if_neg (by omega)]
def clr2 (g : Nat → Option Nat) (hd t : Nat) : Nat → Option Nat := if hd ≤ t then clr g hd t else clr (clr g hd 17) 0 t
theorem dPos_c (hd i : Nat) : (hd + i < 17 ∧ dPos hd i = hd + i) ∨ (17 ≤ hd + i ∧ dPos hd i + 17 = hd + i) := by
  unfold dPos
  by_cases h : hd + i < 17
  · rw [if_pos h]; exact Or.inl ⟨h, rfl⟩
  · rw [if_neg h]; exact Or.inr ⟨by omega, by omega⟩
theorem clr2_in {g : Nat → Option Nat} {hd n j : Nat} (h1 : hd < 17) (h2 : n ≤ 8) (h3 : j < n) : clr2 g hd (dPos hd n) (dPos hd j) = none := by
  unfold clr2
  rcases dPos_c hd n with ⟨a1, a2⟩ | ⟨a1, a2⟩ <;> rcases dPos_c hd j with ⟨b1, b2⟩ | ⟨b1, b2⟩
  · rw [if_pos (by omega)]; exact if_pos ⟨by omega, by omega⟩
  · omega
  · rw [if_neg (by omega)]
    show (if 0 ≤ dPos hd j ∧ dPos hd j < dPos hd n then none else clr g hd 17 (dPos hd j)) = none
    rw [if_neg (by omega)]
    exact if_pos ⟨by omega, by omega⟩
  · rw [if_neg (by omega)]
    exact if_pos ⟨by omega, by omega⟩
theorem clr2_out {g : Nat → Option Nat} {hd n k : Nat} (h : g k = none) : clr2 g hd n k = none := by
  unfold clr2
  split
  · unfold clr; split
    · rfl
    · exact h
  · unfold clr; split
    · rfl
    · split
      · rfl
      · exact h
