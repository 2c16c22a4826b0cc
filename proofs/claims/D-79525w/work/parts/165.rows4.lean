/-! rows of the other changes -/
theorem sAddP_352 {N : Nat → Int32} {p q : Nat} (hp : N 352 = nI p) (h1 : p ≤ 99) (h2 : q ≤ 99) : sAddP N (nI q) 352 = nI (min 99 (p + q)) := by
  unfold sAddP
  rw [upd_eq' rfl, hp, nI_add, nI_min (by omega) (by omega), Nat.min_comm]
theorem sAddP_ne {N : Nat → Int32} {n : Int32} {q : Nat} (h : q ≠ 352) : sAddP N n q = N q := upd_ne' h
theorem sWide_same {N M : Nat → Int32} (h : ∀ q, q < 320 → M q = N q) (c : Nat) (hc : c < 64) : True := trivial
theorem Gd.prop {h : fmHp} {N : Nat → Int32} {c a : Nat} (hG : Gd h N c a) : N (256 + c) = nI 0 ∨ (N c = nI 1 ∧ N (256 + c) = nI 1) := by
  rcases hG with ⟨h1, h2, h3, h4⟩ | ⟨p, h1, h2, h4⟩ | ⟨h1, h2, h4⟩
  · exact Or.inl h3
  · cases p
    · exact Or.inl h2
    · exact Or.inr ⟨h1, h2⟩
  · exact Or.inl h2
theorem sBare_t {N : Nat → Int32} {c : Nat} (h1 : N c = nI 1) (h2 : N (256 + c) = bI false) : sBare N (some c) = true := sb1 (p := false) h1 h2
theorem sBare_f {N : Nat → Int32} {c : Nat} (h : ¬ (N c = nI 1 ∧ N (256 + c) = bI false)) : sBare N (some c) = false := by
  unfold sBare
  rw [Bool.and_eq_false_iff]
  by_cases q : N c = nI 1
  · exact Or.inr (decide_eq_false (fun z => h ⟨q, z⟩))
  · exact Or.inl (decide_eq_false q)
theorem z_ab (n : Nat) (cA : ClassId) : vp_cell cA (n, .inl (fun _ => 0)) = arrV cA n (fun _ => defaultValue (newarray.typeOf .boolean)) := rfl
/-- digging: the row -/
theorem dig_x {N : Nat → Int32} {c j pk x : Nat} {p : Bool} {q : Nat} (hc : c < 64) (hj : j < 8) (hp : pk ≤ 6) (hx : sPickK N (sStrokes N c) pk = some x) (hq : q ≠ 336 + j) (hq2 : q ≠ 352) : sDigRow N j c pk p q = oRow N c (nI j) p pk q := by
  show upd (upd (sOpenUp N c j pk) (256 + c) (bI p)) 352 _ q = _
  rw [upd_ne' hq2]
  by_cases h1 : q = c
  · rw [upd_ne' (by omega), h1, oU_c hc, oRow_c]
  · by_cases h2 : q = 192 + c
    · rw [upd_ne' (by omega), h2, oU_s hc, oRow_s]
    · by_cases h3 : q = 256 + c
      · rw [upd_eq' h3, h3, oRow_p]
      · by_cases h4 : q = 353
        · rw [upd_ne' (by omega), h4, oU_r hc hj, oRow_r hc]
        · rw [upd_ne' h3, oU_o h1 h2 hq h4, oRow_o h1 h2 h3 h4]
theorem dig_w {N : Nat → Int32} {c j pk x : Nat} {p : Bool} (hc : c < 64) (hj : j < 8) (hp : pk ≤ 6) (hx : sPickK N (sStrokes N c) pk = some x) : sDigRow N j c pk p (336 + j) = N (336 + j) + N (128 + c) := by
  show upd (upd (sOpenUp N c j pk) (256 + c) (bI p)) 352 _ (336 + j) = _
  rw [upd_ne' (by omega), upd_ne' (by omega), oU_w hc hj, oW_lo hp hx (by omega) (by omega), oW_lo hp hx (by omega) (by omega)]
theorem dig_p {N : Nat → Int32} {c j pk x : Nat} {p : Bool} (hc : c < 64) (hj : j < 8) (hp : pk ≤ 6) (hx : sPickK N (sStrokes N c) pk = some x) : sDigRow N j c pk p 352 = N 352 - bI p := by
  show upd (upd (sOpenUp N c j pk) (256 + c) (bI p)) 352 _ 352 = _
  rw [upd_eq' rfl, upd_ne' (by omega), oU_o (by omega) (by omega) (by omega) (by omega), oW_lo hp hx (by omega) (by omega)]
theorem dig_n {N : Nat → Int32} {c j pk x : Nat} {p : Bool} (hc : c < 64) (hj : j < 8) (hp : pk ≤ 6) (hx : sPickK N (sStrokes N c) pk = some x) : sDigRow N j c pk p (128 + c) = N (128 + c) := by
  show upd (upd (sOpenUp N c j pk) (256 + c) (bI p)) 352 _ (128 + c) = _
  rw [upd_ne' (by omega), upd_ne' (by omega), oU_o (by omega) (by omega) (by omega) (by omega), oW_lo hp hx (by omega) (by omega)]
