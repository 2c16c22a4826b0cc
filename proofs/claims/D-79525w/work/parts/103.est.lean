/-! ANSWERS of which the search's arrays are left as they come -/
def eSt (m : Nat) (S : MSt) (h0 : fmHp) (k : Nat) (v : Int32) : Option Value → fmHp → Prop := fun v' h' => v' = some (.int v) ∧ ∃ X W : Nat → Int32, h' = mdl m (upd S.1 0 (nI k), va_up (va_up S.2 12 X) 13 W) h0
theorem va_1213 (A : Nat → Nat → Int32) : va_up (va_up A 12 (A 12)) 13 (A 13) = A := by
  rw [va_id (f := A) (k := 12) rfl, va_id rfl]
theorem eSt_i {m : Nat} {S : MSt} {h0 : fmHp} {k : Nat} {v : Int32} {h' : fmHp} (e : h' = mdl m (upd S.1 0 (nI k), S.2) h0) : eSt m S h0 k v (some (.int v)) h' := ⟨rfl, S.2 12, S.2 13, by rw [va_1213]; exact e⟩
def sShaftQ (N : Nat → Int32) (j K : Nat) : Nat → Int32
  | 0 => N (320 + j)
  | 1 => nI (sOpens N (nI j))
  | 2 => N (336 + j)
  | 3 => sSum (fun c => if N (192 + c) = nI j then N (256 + c) else nI 0) 64
  | 4 => N (328 + j)
  | _ => nI (bAll N j K).2.2
def aShaft (N : Nat → Int32) (s u : Int32) (K : Nat) : ARes := aG (!sBetween s (nI 0) (nI K - nI 1)) (aThr 1) <| aG (!sBetween u (nI 0) (nI 5)) (aThr 2) <| aDon (sShaftQ N (cN s) K (cN u)) N
theorem va_5 {A : Nat → Nat → Int32} {X W X2 W2 : Nat → Int32} : va_up (va_up (va_up (va_up A 12 X) 13 W) 12 X2) 13 W2 = va_up (va_up A 12 X2) 13 W2 := va_4
theorem sWalk_1 {F : Nat → Nat} {c i x : Nat} (h : sNxt F (sWalk F c i) 4 = some x) : sWalk F c (i + 1) = x := by
  show (sNxt F (sWalk F c i) 4).getD 0 = x
  rw [h]; rfl
theorem va_3 {A : Nat → Nat → Int32} {X W X2 : Nat → Int32} : va_up (va_up (va_up A 12 X) 13 W) 12 X2 = va_up (va_up A 12 X2) 13 W := by
  funext j
  by_cases h : j = 13
  · simp [va_up, h]
  · by_cases h2 : j = 12
    · simp [va_up, h2]
    · simp [va_up, h, h2]
theorem va_6 {A : Nat → Nat → Int32} {X W X2 : Nat → Int32} : va_up (va_up (va_up A 12 X) 13 W) 12 X2 = va_up (va_up A 12 X2) 13 W := va_3
def sAt (F : Nat → Nat) (x i : Nat) : Option Nat := if i < F x then some (sWalk F x i) else none
theorem sAt_p {F : Nat → Nat} {x i : Nat} (h : i < F x) : sAt F x i = some (sWalk F x i) := if_pos h
theorem sAt_n {F : Nat → Nat} {x i : Nat} (h : F x ≤ i) : sAt F x i = none := if_neg (Nat.not_lt.mpr h)
theorem sAt_1 {F : Nat → Nat} (hp : bPre F) {x i : Nat} (hx : x < 64) (h : i < F x) : sNxt F (sWalk F x i) 4 = sAt F x (i + 1) := by
  obtain ⟨h1, h2⟩ := sWalk_ok hp hx i h
  by_cases e : i + 1 < F x
  · obtain ⟨y, hy⟩ := sNxt_pre hp h1 (by omega)
    rw [sAt_p e, sWalk_1 hy, hy]
  · rw [sAt_n (by omega), sNxt_end h1 (by omega)]
