/-! WHAT IS ASKED, told on a row: code (0 answered, 1, 2 the reference's number of what is thrown), the answer -/
def qSt (S : MSt) (r : ARes) : MSt := (upd S.1 0 (nI r.1), S.2)
theorem sChk_none : ∀ {l : List (Bool × Int32 × Int32)}, sChk l = none → ∀ t ∈ l, t.1 = false
  | [], _, t, ht => by cases ht
  | (b, w, m) :: l, h, t, ht => by
    cases b with
    | true => cases h
    | false =>
      cases ht with
      | head => rfl
      | tail _ ht => exact sChk_none (l := l) h t ht
theorem sDigRef_pick {N : Nat → Int32} {j c : Nat} {p : Bool} {K pk : Nat} (h : sDigRef N j c p K pk = none) : ∃ x, sPickK N (sStrokes N c) pk = some x := by
  have h1 := sChk_none h ((sPickK N (sStrokes N c) pk).isNone, nI 5, sStrokes N c) (by simp)
  cases e : sPickK N (sStrokes N c) pk with
  | none => rw [e] at h1; cases h1
  | some x => exact ⟨x, rfl⟩
theorem aGO_n {o : Option (Int32 × Int32)} {y : ARes} (h : o = none) : aGO o y = y := by rw [h]; rfl
theorem aGO_s {o : Option (Int32 × Int32)} {y : ARes} {w m : Int32} (h : o = some (w, m)) : aGO o y = aRef w m := by rw [h]; rfl
def aEdge (N : Nat → Int32) (v : Int32) (pk : Nat) : ARes := aG (!sBetween v (nI 0) (nI pk - nI 1)) (aThr 1) (aDon (N (344 + cN v)) N)
def sCellQ (N : Nat → Int32) (c : Nat) : Nat → Int32
  | 0 => N c
  | 1 => if sChalk N c = true then N (64 + c) else nI 0
  | 2 => if sChalk N c = true then N (128 + c) else nI 0
  | 3 => if sChalk N c = true then sStrokes N c else nI 0
  | 4 => N (192 + c)
  | _ => N (256 + c)
def aCell (N : Nat → Int32) (v u : Int32) : ARes := aG (!sBetween v (nI 0) (nI 63)) (aThr 1) <| aG (!sBetween u (nI 0) (nI 5)) (aThr 2) <| aDon (sCellQ N (cN v) (cN u)) N
def aSpan (N : Nat → Int32) (v : Int32) (b : Bool) : ARes := aG (!sBetween v (nI 0) (nI 63)) (aThr 1) (aDon (nI (sSpan N (cN v) b)) N)
def sNodB (N : Nat → Int32) (c d : Nat) : Int32 := match sBsd c d with
  | none => nI 0
  | some x => if sChalk N x = true then N (128 + x) else nI 0
def sKnK (N : Nat → Int32) (c : Nat) : Nat → Int32
  | 0 => nI 2 * N (128 + c)
  | k + 1 => sKnK N c k + sNodB N c k
def aKnock (N : Nat → Int32) (v : Int32) (K : Nat) : ARes :=
  aG (!sBetween v (nI 0) (nI 63)) (aThr 1) <| aG (!(sChalk N (cN v) && (sMeet N (cN v) (-1) K).isSome)) (aThr 2) <| aDon (sKnK N (cN v) 4) N
def sBestK (N : Nat → Int32) (j K pk : Nat) : Nat → Option Nat
  | 0 => none
  | k + 1 => if sDigs N (nI j) k K pk = true ∧ (sBestK N j K pk k = none ∨ sBetter N k ((sBestK N j K pk k).getD 0) = true) then some k else sBestK N j K pk k
theorem sBestK_lt {N : Nat → Int32} {j K pk : Nat} : ∀ {k x : Nat}, sBestK N j K pk k = some x → x < k
  | 0, _, h => by cases h
  | k + 1, x, h => by
    unfold sBestK at h
    split at h
    · cases h; omega
    · exact Nat.lt_succ_of_lt (sBestK_lt h)
theorem sBestK_no {N : Nat → Int32} {j K pk k : Nat} (h : sDigs N (nI j) k K pk = false) : sBestK N j K pk (k + 1) = sBestK N j K pk k := if_neg fun q => by rw [h] at q; exact Bool.noConfusion q.1
theorem sBestK_first {N : Nat → Int32} {j K pk k : Nat} (h : sDigs N (nI j) k K pk = true) (h1 : sBestK N j K pk k = none) : sBestK N j K pk (k + 1) = some k := if_pos ⟨h, Or.inl h1⟩
theorem sBestK_take {N : Nat → Int32} {j K pk k x : Nat} (h : sDigs N (nI j) k K pk = true) (h1 : sBestK N j K pk k = some x) (h2 : sBetter N k x = true) : sBestK N j K pk (k + 1) = some k := if_pos ⟨h, Or.inr (by rw [h1]; exact h2)⟩
theorem sBestK_keep {N : Nat → Int32} {j K pk k x : Nat} (h1 : sBestK N j K pk k = some x) (h2 : sBetter N k x = false) : sBestK N j K pk (k + 1) = sBestK N j K pk k := if_neg fun q => q.2.elim (fun z => by rw [h1] at z; cases z) (fun z => by rw [h1] at z; exact Bool.noConfusion (z.symm.trans h2))
def sBest (N : Nat → Int32) (j K pk : Nat) : Option Nat := if N (328 + j) = nI 0 then sBestK N j K pk 64 else none
theorem sBest_31 {N : Nat → Int32} {j K pk : Nat} : ∀ x, sBest N j K pk = some x → x < 2 ^ 31 := fun x h => by
  unfold sBest at h
  split at h
  · exact Nat.lt_trans (sBestK_lt h) (by decide)
  · cases h
def aBest (N : Nat → Int32) (s : Int32) (K pk : Nat) : ARes :=
  aG (!sBetween s (nI 0) (nI K - nI 1)) (aThr 1) <| aG (sBest N (cN s) K pk).isNone (aThr 2) <| aDon (cI (sBest N (cN s) K pk)) N
theorem sFillK_t {N : Nat → Int32} {s : Int32} {k : Nat} (h : sOpenOf (sFillK N s k) (some k) s = true) : sFillK N s (k + 1) = upd (sAddP (upd (sFillK N s k) k (nI 2)) (upd (sFillK N s k) k (nI 2) (256 + k))) (256 + k) (nI 0) := if_pos h
theorem sFillK_f {N : Nat → Int32} {s : Int32} {k : Nat} (h : sOpenOf (sFillK N s k) (some k) s = false) : sFillK N s (k + 1) = sFillK N s k := if_neg (by rw [h]; exact Bool.false_ne_true)
theorem sShaft_f {v : Int32} {K : Nat} (hK : K ≤ 8) (h : (!sBetween v (nI 0) (nI K - nI 1)) = false) : ∃ k, k < K ∧ v = nI k := sShaft_of (Nat.lt_of_le_of_lt hK (by decide)) (by rw [Bool.not_eq_false'] at h; exact h)
theorem sNum_f {v : Int32} {n : Nat} (hn : n < 2 ^ 31) (h : (!sBetween v (nI 0) (nI n)) = false) : ∃ k, k ≤ n ∧ v = nI k := sBtw_of hn (by rw [Bool.not_eq_false'] at h; exact h)
