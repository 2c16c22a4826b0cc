/-! A DEQUE of seventeen places: q the ArrayDeque, e its array, hd its head, n elements at f, the first first -/
def dPos (hd i : Nat) : Nat := if hd + i < 17 then hd + i else hd + i - 17
theorem dPos_lt {hd i : Nat} (h1 : hd < 17) (h2 : i < 17) : dPos hd i < 17 := by
  unfold dPos
  split <;> omega
theorem dPos_inj {hd i j : Nat} (h1 : hd < 17) (h2 : i < 17) (h3 : j < 17) (h : dPos hd i = dPos hd j) : i = j := by
  unfold dPos at h
  split at h <;> split at h <;> omega
def AD (h : fmHp) (q e hd n : Nat) (f : Nat → Nat) : Prop := ∃ g : Nat → Option Nat, h q = some (true, .inr (.inl (14, [.ref e, .int (nI hd), .int (nI (dPos hd n))]))) ∧ h e = some (true, .inl (6, 17, .inr (.inr (.inr (.inr g))))) ∧ hd < 17 ∧ n ≤ 8 ∧ (∀ i, i < n → g (dPos hd i) = some (f i)) ∧ (∀ i, n ≤ i → i < 17 → g (dPos hd i) = none)
theorem AD.ne {h : fmHp} {q e hd n : Nat} {f : Nat → Nat} (hA : AD h q e hd n f) : q ≠ e := by
  obtain ⟨g, h1, h2, -⟩ := hA
  exact fun z => by rw [z, h2] at h1; cases h1
theorem AD.kept {h h' : fmHp} {q e hd n : Nat} {f : Nat → Nat} (hA : AD h q e hd n f) (h1 : h' q = h q) (h2 : h' e = h e) : AD h' q e hd n f := by
  obtain ⟨g, k1, k2, k3⟩ := hA
  exact ⟨g, h1.trans k1, h2.trans k2, k3⟩
def dDec (i m : Nat) : Nat := if i = 0 then m - 1 else i - 1
def dInc (i m : Nat) : Nat := if i + 1 < m then i + 1 else 0
def dSub (t hd m : Nat) : Nat := if hd ≤ t then t - hd else t + m - hd
theorem dSub_n {hd n : Nat} (h1 : hd < 17) (h2 : n < 17) : dSub (dPos hd n) hd 17 = n := by
  unfold dSub dPos
  split <;> split <;> omega
theorem nI_m1 {i : Nat} (h : 0 < i) : nI i + -1 = nI (i - 1) := by
  obtain ⟨k, rfl⟩ : ∃ k, i = k + 1 := ⟨i - 1, by omega⟩
  rw [← nI_1, Nat.add_sub_cancel, Int32.add_assoc]
  show nI k + (1 + -1) = nI k
  rw [show (1 : Int32) + -1 = 0 by decide, Int32.add_zero]
theorem nI_subI {a b : Nat} (h : b ≤ a) : nI a - nI b = nI (a - b) := by
  obtain ⟨k, rfl⟩ : ∃ k, a = b + k := ⟨a - b, by omega⟩
  rw [Nat.add_sub_cancel_left, ← nI_add, Int32.add_comm]
  exact Int32.add_sub_cancel _ _
theorem nI_rot (a b c : Int32) : a - b + c = a + c - b := by
  rw [Int32.sub_eq_add_neg, Int32.sub_eq_add_neg, Int32.add_assoc, Int32.add_assoc, Int32.add_comm (-b) c]
theorem nI_lt0 {a b : Nat} (h : a < b) (hb : b < 2 ^ 20) : ¬ 0 ≤ nI a - nI b := fun q => by
  have h1 : nI a - nI b + nI b = nI a := Int32.sub_add_cancel _ _
  have h2 : (nI a).toInt = a := by unfold nI; exact Int32.toInt_ofNat_of_lt (by omega)
  have h3 : (nI b).toInt = b := by unfold nI; exact Int32.toInt_ofNat_of_lt (by omega)
  have h4 : (nI a - nI b).toInt = ((a : Int) - b).bmod (2 ^ 32) := by rw [Int32.toInt_sub, h2, h3]
  have h5 : ((a : Int) - b).bmod (2 ^ 32) = (a : Int) - b := Int.bmod_eq_of_le (by omega) (by omega)
  have h6 := Int32.le_iff_toInt_le.mp q
  rw [h4, h5] at h6
  have h7 : (0 : Int32).toInt = 0 := rfl
  omega
theorem dPos_dec {hd i : Nat} (h1 : hd < 17) (h2 : i < 16) : dPos (dDec hd 17) (i + 1) = dPos hd i := by
  unfold dPos dDec
  split <;> split <;> split <;> omega
theorem dPos_dec0 {hd : Nat} (h1 : hd < 17) : dPos (dDec hd 17) 0 = dDec hd 17 ∧ dDec hd 17 < 17 := by
  unfold dPos dDec
  split <;> split <;> omega
theorem dPos_inc {hd i : Nat} (h1 : hd < 17) (h2 : i < 16) : dPos (dInc hd 17) i = dPos hd (i + 1) := by
  unfold dPos dInc
  split <;> split <;> split <;> omega
theorem dInc_lt {hd : Nat} (h1 : hd < 17) : dInc hd 17 < 17 := by
  unfold dInc
  split <;> omega
theorem dPos_0 {hd : Nat} (h1 : hd < 17) : dPos hd 0 = hd := by
  unfold dPos
  split <;> omega
theorem dDec_pos {hd n : Nat} (h1 : hd < 17) (h2 : 0 < n) (h3 : n < 17) : dDec (dPos hd n) 17 = dPos hd (n - 1) := by
  unfold dPos dDec
  split <;> split <;> split <;> omega
def fPush (f : Nat → Nat) (v : Nat) : Nat → Nat := fun i => if i = 0 then v else f (i - 1)
