/-! a row after strokes, place by place; the cache's Integers -/
theorem sStr_lo {N : Nat → Int32} {j pk q : Nat} {n : Int32} (hj : j < pk) (hp : pk ≤ 6) (hq : q < 344 ∨ 352 ≤ q) (h4 : q ≠ 354) : sStrike N j n pk q = N q := by
  unfold sStrike
  split
  · rw [upd_ne' (by omega)]
    unfold sShift
    rw [if_neg (by omega), upd_ne' (by omega)]
    unfold sStr1
    rw [upd_ne' (by omega), upd_ne' (by omega)]
  · unfold sStr1
    rw [upd_ne' (by omega), upd_ne' (by omega)]
theorem sStr_354 {N : Nat → Int32} {j pk : Nat} {n : Int32} (hj : j < pk) (hp : pk ≤ 6) : sStrike N j n pk 354 = N 354 + n := by
  unfold sStrike
  split
  · rw [upd_ne' (by omega)]
    unfold sShift
    rw [if_neg (by omega), upd_ne' (by omega)]
    unfold sStr1
    rw [upd_ne' (by omega), upd_eq' rfl]
  · unfold sStr1
    rw [upd_ne' (by omega), upd_eq' rfl]
theorem sStr_351 {N : Nat → Int32} {j pk : Nat} {n : Int32} (hj : j < pk) (hp : pk ≤ 6) : sStrike N j n pk 351 = if N (344 + j) - n = nI 0 then nI (pk - 1) else N 351 := by
  unfold sStrike
  split
  · rw [upd_ne' (by omega)]
    unfold sShift
    rw [if_neg (by omega), upd_eq' rfl]
  · unfold sStr1
    rw [upd_ne' (by omega), upd_ne' (by omega)]
theorem sStr_350 {N : Nat → Int32} {j pk : Nat} {n : Int32} (hj : j < pk) (hp : pk ≤ 6) : sStrike N j n pk 350 = N 350 := by
  unfold sStrike
  split
  · rw [upd_ne' (by omega)]
    unfold sShift
    rw [if_neg (by omega), upd_ne' (by omega)]
    unfold sStr1
    rw [upd_ne' (by omega), upd_ne' (by omega)]
  · unfold sStr1
    rw [upd_ne' (by omega), upd_ne' (by omega)]
theorem sStr_keep {N : Nat → Int32} {j pk k : Nat} {n : Int32} (hp : pk ≤ 6) (hn : ¬ N (344 + j) - n = nI 0) (hk : k < pk) : sStrike N j n pk (344 + k) = if k = j then N (344 + j) - n else N (344 + k) := by
  unfold sStrike
  rw [if_neg hn]
  unfold sStr1
  by_cases h : k = j
  · rw [if_pos h, upd_eq' (by omega)]
  · rw [if_neg h, upd_ne' (by omega), upd_ne' (by omega)]
theorem sStr_gone {N : Nat → Int32} {j pk k : Nat} {n : Int32} (hj : j < pk) (hp : pk ≤ 6) (hn : N (344 + j) - n = nI 0) (hk : k < pk - 1) : sStrike N j n pk (344 + k) = if k < j then N (344 + k) else N (344 + (k + 1)) := by
  unfold sStrike
  rw [if_pos hn, upd_ne' (by omega)]
  unfold sShift
  by_cases h : k < j
  · rw [if_pos h, if_neg (by omega), upd_ne' (by omega)]
    unfold sStr1
    rw [upd_ne' (by omega), upd_ne' (by omega)]
  · rw [if_neg h, if_pos (by omega), upd_ne' (by omega)]
    unfold sStr1
    rw [upd_ne' (by omega), upd_ne' (by omega)]
    rfl
/-- only the picks are written -/
def sMid (N M : Nat → Int32) : Nat → Int32 := fun q => if 344 ≤ q ∧ q < 352 then M q else N q
theorem sMid_o {N M : Nat → Int32} {q : Nat} (h : q < 344 ∨ 352 ≤ q) : sMid N M q = N q := if_neg (by omega)
theorem sMid_i {N M : Nat → Int32} {q : Nat} (h : 344 ≤ q ∧ q < 352) : sMid N M q = M q := if_pos h
theorem CC.int {G : fmG} {h : fmHp} (hC : CC G h) {v : Nat} (hv : v < 128) : h (fmAd G (100 + (v + 128))) = some (false, .inr (.inl (17, [.int (nI v)]))) := by
  have h1 := hC.2.2.2.2.1 (v + 128) (by omega)
  rw [nI_subI (by omega), Nat.add_sub_cancel] at h1
  exact h1
theorem nI_geN {v : Nat} {x : Int32} (hv : v < 2 ^ 31) (hx : x < 0) : ¬ nI v < x := fun q => nI_pos hv (Int32.lt_trans q hx)
theorem bI_inj {a b : Bool} (h : bI a = bI b) : a = b := by
  cases a <;> cases b <;> first | rfl | exact absurd h (by decide)
theorem sBtw_n {k n : Nat} (hk : k ≤ n) (hn : n < 2 ^ 31) : sBetween (nI k) (nI 0) (nI n) = true := by
  unfold sBetween
  rw [Bool.and_eq_true, Bool.not_eq_true', Bool.not_eq_true', decide_eq_false_iff_not, decide_eq_false_iff_not]
  exact ⟨Int32.not_lt.mpr (nI_le (Nat.zero_le _) (by omega)), Int32.not_lt.mpr (nI_le hk hn)⟩
theorem sMid_b {N M : Nat → Int32} {q : Nat} (h : q < 344 → M q = N q) (hq : q < 352) : M q = sMid N M q := by
  by_cases h4 : q < 344
  · rw [sMid_o (Or.inl h4)]; exact h h4
  · rw [sMid_i ⟨by omega, hq⟩]
