/-! THE CHANGES, told on a row: code (0 done, 1 out of bounds, 2 illegal argument, 3 refused), why and more, the answer, the row -/
abbrev ARes : Type := Nat × (Int32 × Int32) × Int32 × (Nat → Int32)
def aThr (k : Nat) : ARes := (k, (0, 0), 0, fun _ => 0)
def aRef (w m : Int32) : ARes := (3, (w, m), 0, fun _ => 0)
def aDon (v : Int32) (N : Nat → Int32) : ARes := (0, (0, 0), v, N)
def aG (b : Bool) (x y : ARes) : ARes := if b = true then x else y
theorem aG_t {b : Bool} {x y : ARes} (h : b = true) : aG b x y = x := if_pos h
theorem aG_f {b : Bool} {x y : ARes} (h : b = false) : aG b x y = y := if_neg (by rw [h]; exact Bool.false_ne_true)
def aGO (o : Option (Int32 × Int32)) (y : ARes) : ARes := match o with
  | some (w, m) => aRef w m
  | none => y
def sThr (S : MSt) (k : Nat) : MSt := (upd S.1 0 (nI k), S.2)
def sRfd (S : MSt) (k : Nat) (w m : Int32) : MSt := (upd (refO (upd S.1 0 (nI 0)) (some (w, m))) 0 (nI k), S.2)
def sDon (S : MSt) (tx : Bool) (kp : Nat) (N : Nat → Int32) : MSt := ((sChg (upd S.1 0 (nI 0), S.2) tx kp).1, va_up (sChg (upd S.1 0 (nI 0), S.2) tx kp).2 1 N)
def aAns (r : ARes) : Int32 := r.2.2.1
/-- the reference's state behind a change; its numbers of the three exceptions -/
def aSt (S : MSt) (tx : Bool) (kp k1 k2 k3 : Nat) (r : ARes) : MSt := match r with
  | (0, _, _, N) => sDon S tx kp N
  | (1, _) => sThr S k1
  | (2, _) => sThr S k2
  | (_, (w, m), _) => sRfd S k3 w m
theorem nf1 {s : Nat → Int32} {e : Bool} {k : Int32} (c : e = false) : upd s 0 (if e = true then k else nI 0) = upd s 0 (nI 0) := by rw [c]; rfl
theorem nt1 {s : Nat → Int32} {e : Bool} {k : Int32} (c : e = true) : upd s 0 (if e = true then k else nI 0) = upd s 0 k := by rw [c]; rfl
/-- a number's cell -/
def cN (v : Int32) : Nat := v.toNatClampNeg
theorem cN_n {k : Nat} (h : k < 2 ^ 31) : cN (nI k) = k := nI_clamp h
theorem sBtw_of {v : Int32} {n : Nat} (hn : n < 2 ^ 31) (h : sBetween v (nI 0) (nI n) = true) : ∃ k, k ≤ n ∧ v = nI k := by
  unfold sBetween at h
  rw [Bool.and_eq_true, Bool.not_eq_true', Bool.not_eq_true', decide_eq_false_iff_not, decide_eq_false_iff_not] at h
  have h1 : (0 : Int32) ≤ v := Int32.not_lt.mp (by rw [← nI_0]; exact h.1)
  have h2 : v ≤ nI n := Int32.not_lt.mp h.2
  have h3 : v = nI v.toNatClampNeg := by
    rw [Int32.le_iff_toInt_le] at h1
    have h5 : 0 ≤ v.toInt := h1
    unfold nI
    rw [← Int32.toInt_inj, Int32.toInt_ofNat_of_lt (by have := Int32.toInt_lt v; show v.toInt.toNat < _; omega)]
    show v.toInt = ((v.toInt.toNat : Nat) : Int)
    omega
  refine ⟨v.toNatClampNeg, ?_, h3⟩
  rw [h3] at h2
  by_cases hc : v.toNatClampNeg ≤ n
  · exact hc
  · have hv : v.toNatClampNeg < 2 ^ 31 := by have := Int32.toInt_lt v; show v.toInt.toNat < _; omega
    exact absurd (nI_lt (Nat.not_le.mp hc) hv) (Int32.not_lt.mpr h2)
theorem sCell_of {v : Int32} (h : (!sBetween v (nI 0) (nI 63)) = false) : ∃ k, k < 64 ∧ v = nI k := by
  obtain ⟨k, h1, h2⟩ := sBtw_of (n := 63) (by decide) (by rw [Bool.not_eq_false'] at h; exact h)
  exact ⟨k, by omega, h2⟩
theorem sShaft_of {v : Int32} {K : Nat} (hK : K < 2 ^ 31) (h : sBetween v (nI 0) (nI K - nI 1) = true) : ∃ k, k < K ∧ v = nI k := by
  by_cases h0 : K = 0
  · subst h0
    unfold sBetween at h
    rw [Bool.and_eq_true, Bool.not_eq_true', Bool.not_eq_true', decide_eq_false_iff_not, decide_eq_false_iff_not] at h
    have h1 : nI 0 ≤ v := Int32.not_lt.mp h.1
    have h2 : v ≤ nI 0 - nI 1 := Int32.not_lt.mp h.2
    exact absurd (Int32.le_trans h1 h2) (by decide)
  · have h3 : nI K - nI 1 = nI (K - 1) := by
      obtain ⟨q, rfl⟩ : ∃ q, K = q + 1 := ⟨K - 1, by omega⟩
      exact nI_pred q
    rw [h3] at h
    obtain ⟨k, h1, h2⟩ := sBtw_of (by omega) h
    exact ⟨k, by omega, h2⟩
theorem sCell_n {k : Nat} (h : k < 64) : sBetween (nI k) (nI 0) (nI 63) = true := by
  unfold sBetween
  rw [Bool.and_eq_true, Bool.not_eq_true', Bool.not_eq_true', decide_eq_false_iff_not, decide_eq_false_iff_not]
  exact ⟨Int32.not_lt.mpr (nI_le (Nat.zero_le _) (by omega)), Int32.not_lt.mpr (nI_le (by omega) (by decide))⟩
def aRock (N : Nat → Int32) (v hd nd : Int32) : ARes :=
  aG (!sBetween v (nI 0) (nI 63)) (aThr 1) <| aG (!sBetween hd (nI 1) (nI 9) || !sBetween nd (nI 0) (nI 9)) (aThr 2) <| aG (!sChalk N (cN v)) (aRef (nI 1) v) <|
  aDon (sStrokes (upd (upd N (64 + cN v) hd) (128 + cN v) nd) (cN v)) (upd (upd N (64 + cN v) hd) (128 + cN v) nd)
def aRoof (N : Nat → Int32) (v : Int32) : ARes :=
  aG (!sBetween v (nI 2) (nI 8)) (aThr 2) <| aG (decide (v < nI (sLong N))) (aRef (nI 4) (nI (sLong N))) <| aDon (N 355) (upd N 355 v)
def aProps (N : Nat → Int32) (v : Int32) : ARes :=
  aG (!sBetween v (nI 1) (nI 99)) (aThr 2) <| aDon (sAddP N v 352) (sAddP N v)
def aPick (N : Nat → Int32) (v : Int32) (pk : Nat) : ARes :=
  aG (!sBetween v (nI 1) (nI 99)) (aThr 2) <| aG (decide (pk = 6)) (aRef (nI 8) (nI 6)) <| aDon (nI pk) (upd (upd N (344 + pk) v) 351 (nI (pk + 1)))
def sSink3 (N : Nat → Int32) (c K : Nat) : Nat → Int32 := upd (upd (upd N (320 + K) (nI c)) (328 + K) (nI 0)) (336 + K) (nI 0)
def sSink4 (N : Nat → Int32) (c K : Nat) : Nat → Int32 := upd (sSink3 N c K) 350 (nI (K + 1))
theorem sSink3_o {N : Nat → Int32} {c K q : Nat} (hK : K < 8) (hq : q < 320 ∨ 344 ≤ q) : sSink3 N c K q = N q := by
  unfold sSink3 upd
  rw [if_neg (by omega), if_neg (by omega), if_neg (by omega)]
theorem sSink4_o {N : Nat → Int32} {c K q : Nat} (hK : K < 8) (hq : q < 320 ∨ 344 ≤ q) (h5 : q ≠ 350) : sSink4 N c K q = N q := by
  unfold sSink4
  rw [show upd (sSink3 N c K) 350 (nI (K + 1)) q = sSink3 N c K q from if_neg h5, sSink3_o hK hq]
theorem sPickK_eq {N M : Nat → Int32} {need : Int32} (h : ∀ k, k < 6 → N (344 + k) = M (344 + k)) : ∀ {k}, k ≤ 6 → sPickK N need k = sPickK M need k
  | 0, _ => rfl
  | k + 1, hk => by
    have ih := sPickK_eq h (need := need) (Nat.le_of_succ_le hk)
    unfold sPickK
    rw [ih, h k (by omega)]
    cases e : sPickK M need k with
    | none => simp
    | some x =>
      rw [show N (344 + (some x).getD 0) = M (344 + (some x).getD 0) from h x (Nat.lt_of_lt_of_le (sPickK_lt e) (by omega))]
theorem sSink4_p {N : Nat → Int32} {c K pk : Nat} (hK : K < 8) (hc : c < 64) (hp : pk ≤ 6) : sPickK (sSink4 N c K) (sStrokes (sSink4 N c K) c) pk = sPickK N (sStrokes N c) pk := by
  have h1 : sStrokes (sSink4 N c K) c = sStrokes N c := by
    unfold sStrokes
    rw [sSink4_o hK (by omega) (by omega), sSink4_o hK (by omega) (by omega)]
  rw [h1]
  exact sPickK_eq (fun k hk => sSink4_o hK (by omega) (by omega)) hp
def aSink (N : Nat → Int32) (v : Int32) (K pk : Nat) : ARes :=
  aG (!sBetween v (nI 0) (nI 63)) (aThr 1) <| aG (decide (K = 8)) (aRef (nI 8) (nI 8)) <| aG (!sChalk N (cN v)) (aRef (nI 1) v) <|
  aG (sMeet N (cN v) (-1) K).isSome (aRef (nI 3) (cI (sMeet N (cN v) (-1) K))) <| aG (sPickK N (sStrokes N (cN v)) pk).isNone (aRef (nI 5) (sStrokes N (cN v))) <|
  aDon (nI K) (sOpenUp (sSink4 N (cN v) K) (cN v) K pk)
def sDigRow (N : Nat → Int32) (j c pk : Nat) (p : Bool) : Nat → Int32 :=
  let a := upd (sOpenUp N c j pk) (256 + c) (bI p)
  upd a 352 (a 352 - bI p)
def aDig (N : Nat → Int32) (s v : Int32) (p : Bool) (K pk : Nat) : ARes :=
  aG (!(sBetween s (nI 0) (nI K - nI 1) && sBetween v (nI 0) (nI 63))) (aThr 1) <| aGO (sDigRef N (cN s) (cN v) p K pk) <| aDon (sDigRow N (cN s) (cN v) pk p (128 + cN v)) (sDigRow N (cN s) (cN v) pk p)
def sPropRow (N : Nat → Int32) (c : Nat) : Nat → Int32 :=
  let a := upd N (256 + c) (nI 1)
  upd a 352 (a 352 - nI 1)
def aProp (N : Nat → Int32) (v : Int32) : ARes :=
  aG (!sBetween v (nI 0) (nI 63)) (aThr 1) <| aG (!sBare N (some (cN v))) (aRef (nI 9) v) <| aG (decide (N 352 = nI 0)) (aRef (nI 7) (nI 0)) <| aDon (sPropRow N (cN v) 352) (sPropRow N (cN v))
def aUnprop (N : Nat → Int32) (v : Int32) : ARes :=
  aG (!sBetween v (nI 0) (nI 63)) (aThr 1) <| aG (decide (N (256 + cN v) = nI 0)) (aRef (nI 9) v) <| aG (decide (N 355 < nI (sWide N (cN v)))) (aRef (nI 4) (nI (sWide N (cN v)))) <|
  aDon (sAddP (upd N (256 + cN v) (nI 0)) (nI 1) 352) (sAddP (upd N (256 + cN v) (nI 0)) (nI 1))
def sOpens (N : Nat → Int32) (s : Int32) : Nat := sCount (fun c => sOpenOf N (some c) s) 64
theorem sOpens_le (N : Nat → Int32) (s : Int32) : sOpens N s ≤ 64 := sCount_le _ 64
/-- the first k cells of a shaft are filled -/
def sFillK (N : Nat → Int32) (s : Int32) : Nat → Nat → Int32
  | 0 => N
  | k + 1 => if sOpenOf (sFillK N s k) (some k) s = true then upd (sAddP (upd (sFillK N s k) k (nI 2)) (upd (sFillK N s k) k (nI 2) (256 + k))) (256 + k) (nI 0) else sFillK N s k
def sCloseRow (N : Nat → Int32) (j : Nat) : Nat → Int32 :=
  let a := upd N (328 + j) (nI 1)
  sFillK (upd a 353 (a 353 - nI (sOpens N (nI j)))) (nI j) 64
def aClose (N : Nat → Int32) (s : Int32) (K : Nat) : ARes :=
  aG (!sBetween s (nI 0) (nI K - nI 1)) (aThr 1) <| aG (decide (N (328 + cN s) = nI 1)) (aRef (nI 6) s) <| aG (decide (N 353 < nI (sOpens N s))) (aRef (nI 10) (nI (sOpens N s))) <|
  aDon (sCloseRow N (cN s) 353) (sCloseRow N (cN s))
