/-! MORE OF THE ROW, and rows for whole arrays -/
theorem refF_n {s : Nat → Int32} {c : Bool} {w m : Int32} (h : c = false) : refF s c w m = s := by rw [h]; rfl
def refO (s : Nat → Int32) (o : Option (Int32 × Int32)) : Nat → Int32 := match o with
  | none => s
  | some (w, m) => upd (upd s 5 w) 6 m
theorem refF_p {s : Nat → Int32} {c : Bool} {w m : Int32} (h : c = true) : refF s c w m = refO s (some (w, m)) := by rw [h]; rfl
/-- the first of some checks that refuses -/
def sChk : List (Bool × Int32 × Int32) → Option (Int32 × Int32)
  | [] => none
  | (b, w, m) :: l => if b = true then some (w, m) else sChk l
theorem sChk_t {b : Bool} {w m : Int32} {l : List (Bool × Int32 × Int32)} (h : b = true) : sChk ((b, w, m) :: l) = some (w, m) := by rw [h]; rfl
theorem sChk_f {b : Bool} {w m : Int32} {l : List (Bool × Int32 × Int32)} (h : b = false) : sChk ((b, w, m) :: l) = sChk l := by rw [h]; rfl
/-- how far the board goes on from a cell -/
def sLeft (c d : Nat) : Nat := if d = 0 then c / 8 else if d = 1 then c % 8 else if d = 2 then 7 - c % 8 else 7 - c / 8
theorem sLeft_bsd {c d x : Nat} (hc : c < 64) (h : sBsd c d = some x) : sLeft x d + 1 = sLeft c d := by
  unfold sBsd at h
  unfold sLeft
  by_cases h0 : d = 0
  · rw [if_pos h0] at h; rw [if_pos h0, if_pos h0]
    split at h
    · cases h; omega
    · cases h
  · rw [if_neg h0] at h; rw [if_neg h0, if_neg h0]
    by_cases h1 : d = 1
    · rw [if_pos h1] at h; rw [if_pos h1, if_pos h1]
      split at h
      · cases h; omega
      · cases h
    · rw [if_neg h1] at h; rw [if_neg h1, if_neg h1]
      by_cases h2 : d = 2
      · rw [if_pos h2] at h; rw [if_pos h2, if_pos h2]
        split at h
        · cases h; omega
        · cases h
      · rw [if_neg h2] at h; rw [if_neg h2, if_neg h2]
        split at h
        · cases h; omega
        · cases h
theorem sLeft_le {c d : Nat} (hc : c < 64) : sLeft c d ≤ 7 := by
  unfold sLeft
  repeat' split
  all_goals omega
theorem sRunF_0 {N : Nat → Int32} {d : Nat} {o : Option Nat} (h : sBare N o = false) : ∀ n, sRunF N d n o = 0
  | 0 => by cases o <;> rfl
  | n + 1 => by
    cases o with
    | none => rfl
    | some c => unfold sRunF; rw [if_neg (by rw [h]; exact Bool.false_ne_true)]
theorem sRunF_1 {N : Nat → Int32} {d n x : Nat} (h : sBare N (some x) = true) : sRunF N d (n + 1) (some x) = sRunF N d n (sBsd x d) + 1 := by
  conv => lhs; unfold sRunF
  rw [if_pos h]
theorem sBare_some {N : Nat → Int32} {o : Option Nat} (h : sBare N o = true) : ∃ x, o = some x := by
  cases o with
  | none => cases h
  | some x => exact ⟨x, rfl⟩
def sFree (N : Nat → Int32) (c : Nat) (s : Int32) (K : Nat) : Bool := sChalk N c && (sMeet N c s K).isNone
def sPick (N : Nat → Int32) (need : Int32) (P : Nat) : Option Nat := sPickK N need P
def sDigs (N : Nat → Int32) (s : Int32) (c K P : Nat) : Bool :=
  (sChalk N c && (sNext N c s && (sMeet N c s K).isNone)) && (!decide (N 355 < nI (sWide N c)) && (sPickK N (sStrokes N c) P).isSome)
def sBetter (N : Nat → Int32) (c d : Nat) : Bool :=
  let a := N (128 + c) * sStrokes N d - N (128 + d) * sStrokes N c
  decide (0 < a) || (decide (a = 0) && decide (sStrokes N c < sStrokes N d))
def sAddP (N : Nat → Int32) (n : Int32) : Nat → Int32 := upd N 352 (if nI 99 < N 352 + n then nI 99 else N 352 + n)
def sDigRef (N : Nat → Int32) (j c : Nat) (p : Bool) (K P : Nat) : Option (Int32 × Int32) :=
  sChk [(decide (N (328 + j) = nI 1), nI 6, nI j), (!sChalk N c, nI 1, nI c), (!sNext N c (nI j), nI 2, nI c), ((sMeet N c (nI j) K).isSome, nI 3, cI (sMeet N c (nI j) K)),
    (p && decide (N 352 = nI 0), nI 7, nI 0), (!p && decide (N 355 < nI (sWide N c)), nI 4, nI (sWide N c)), ((sPickK N (sStrokes N c) P).isNone, nI 5, sStrokes N c)]
theorem sPickK_no {N : Nat → Int32} {need : Int32} {k : Nat} (h : decide (N (344 + k) ≥ need) = false) : sPickK N need (k + 1) = sPickK N need k := if_neg fun q => of_decide_eq_false h q.1
theorem sPickK_first {N : Nat → Int32} {need : Int32} {k : Nat} (h : decide (N (344 + k) ≥ need) = true) (h1 : sPickK N need k = none) : sPickK N need (k + 1) = some k := if_pos ⟨of_decide_eq_true h, Or.inl h1⟩
theorem sPickK_take {N : Nat → Int32} {need : Int32} {k x : Nat} (h : decide (N (344 + k) ≥ need) = true) (h1 : sPickK N need k = some x) (h2 : ¬ N (344 + k) ≥ N (344 + x)) : sPickK N need (k + 1) = some k := if_pos ⟨of_decide_eq_true h, Or.inr (by rw [h1]; exact Int32.not_le.mp h2)⟩
theorem sPickK_keep {N : Nat → Int32} {need : Int32} {k x : Nat} (h1 : sPickK N need k = some x) (h2 : N (344 + k) ≥ N (344 + x)) : sPickK N need (k + 1) = sPickK N need k := if_neg fun q => q.2.elim (fun z => by rw [h1] at z; cases z) (fun z => by rw [h1] at z; exact absurd z (Int32.not_lt.mpr h2))
theorem sPickK_31 {N : Nat → Int32} {need : Int32} {k : Nat} (hk : k ≤ 6) : ∀ x, sPickK N need k = some x → x < 2 ^ 31 := fun x h => Nat.lt_of_lt_of_le (Nat.lt_of_lt_of_le (sPickK_lt h) hk) (by decide)
theorem sMeet_31 {N : Nat → Int32} {c K : Nat} {own : Int32} (hk : K ≤ 8) : ∀ x, sMeet N c own K = some x → x < 2 ^ 31 := fun x h => Nat.lt_of_lt_of_le (Nat.lt_of_lt_of_le (sMeet_lt h) hk) (by decide)
theorem arrV_eq {cA : ClassId} {n : Nat} {f g : Nat → Value} (h : ∀ j, j < n → f j = g j) : arrV cA n f = arrV cA n g := by
  unfold arrV
  rw [show (fun j : Fin n => f j.val) = (fun j : Fin n => g j.val) from funext fun j => h j.val j.isLt]
theorem fmFew_n {L : List (Option Value)} (j : Nat) : fmFew (L.set j none) L := fun i v h => by
  rw [List.getElem?_set] at h
  split at h
  · split at h <;> cases h
  · exact h
theorem va_uu {α : Type} (f : Nat → α) (k : Nat) (v w : α) : va_up (va_up f k v) k w = va_up f k w := by
  funext j
  unfold va_up
  by_cases h : j = k
  · rw [if_pos h, if_pos h]
  · rw [if_neg h, if_neg h, if_neg h]
theorem mdl_vv {m : Nat} {s : Nat → Int32} {A : Nat → Nat → Int32} {h0 : fmHp} (k : Nat) (X Y : Nat → Int32) : mdl m (s, va_up (va_up A k X) k Y) h0 = mdl m (s, va_up A k Y) h0 := by rw [va_uu]
theorem mdl_b1 {m : Nat} {s : Nat → Int32} {A : Nat → Nat → Int32} {X : Nat → Int32} {h0 : fmHp} (f : Nat → Int32) : fmUp (mdl m (s, va_up A 1 X) h0) (m + 1) (true, .inl (0, 356, .inl f)) = mdl m (s, va_up A 1 f) h0 := (mdl_a1 f).trans (mdl_vv 1 X f)
theorem mdl_b2 {m : Nat} {s : Nat → Int32} {A : Nat → Nat → Int32} {X : Nat → Int32} {h0 : fmHp} (f : Nat → Int32) : fmUp (mdl m (s, va_up A 2 X) h0) (m + 2) (true, .inl (0, 356, .inl f)) = mdl m (s, va_up A 2 f) h0 := (mdl_a2 f).trans (mdl_vv 2 X f)
theorem mdl_b12 {m : Nat} {s : Nat → Int32} {A : Nat → Nat → Int32} {X : Nat → Int32} {h0 : fmHp} (f : Nat → Int32) : fmUp (mdl m (s, va_up A 12 X) h0) (m + 12) (true, .inl (0, 64, .inl f)) = mdl m (s, va_up A 12 f) h0 := (mdl_a12 f).trans (mdl_vv 12 X f)
theorem mdl_b13 {m : Nat} {s : Nat → Int32} {A : Nat → Nat → Int32} {X : Nat → Int32} {h0 : fmHp} (f : Nat → Int32) : fmUp (mdl m (s, va_up A 13 X) h0) (m + 13) (true, .inl (0, 64, .inl f)) = mdl m (s, va_up A 13 f) h0 := (mdl_a13 f).trans (mdl_vv 13 X f)
theorem mdl_b15 {m : Nat} {s : Nat → Int32} {A : Nat → Nat → Int32} {X : Nat → Int32} {h0 : fmHp} (f : Nat → Int32) : fmUp (mdl m (s, va_up A 15 X) h0) (m + 15) (true, .inl (0, 356, .inl f)) = mdl m (s, va_up A 15 f) h0 := (mdl_a15 f).trans (mdl_vv 15 X f)
theorem mdl_b14 {m : Nat} {s : Nat → Int32} {A : Nat → Nat → Int32} {X : Nat → Int32} {h0 : fmHp} (f : Nat → Int32) : fmUp (mdl m (s, va_up A 14 X) h0) (m + 14) (true, .inl (4, 60, .inl f)) = mdl m (s, va_up A 14 f) h0 := (mdl_a14 f).trans (mdl_vv 14 X f)
/-- a row after some strokes with pick j, the picks behind it moved on up to k -/
def sStr1 (N : Nat → Int32) (j : Nat) (n : Int32) : Nat → Int32 := upd (upd N 354 (N 354 + n)) (344 + j) (N (344 + j) - n)
def sShift (b : Nat → Int32) (j k : Nat) : Nat → Int32 := fun q => if 344 + j ≤ q ∧ q < 344 + k then b (q + 1) else b q
theorem sShift_0 (b : Nat → Int32) (j : Nat) : sShift b j j = b := by
  funext q
  exact if_neg (by omega)
theorem sShift_1 (b : Nat → Int32) {j k : Nat} (h : j ≤ k) : upd (sShift b j k) (344 + k) (sShift b j k (344 + k + 1)) = sShift b j (k + 1) := by
  funext q
  unfold upd sShift
  by_cases h1 : q = 344 + k
  · subst h1
    rw [if_pos rfl, if_neg (by omega), if_pos (by omega)]
  · rw [if_neg h1]
    by_cases h2 : 344 + j ≤ q ∧ q < 344 + k
    · rw [if_pos h2, if_pos (by omega)]
    · rw [if_neg h2, if_neg (by omega)]
def sStrike (N : Nat → Int32) (j : Nat) (n : Int32) (pk : Nat) : Nat → Int32 :=
  if N (344 + j) - n = nI 0 then upd (sShift (upd (sStr1 N j n) 351 (nI (pk - 1))) j (pk - 1)) (344 + (pk - 1)) (nI 0) else sStr1 N j n
def sOpenUp (N : Nat → Int32) (c j pk : Nat) : Nat → Int32 :=
  let a := sStrike N ((sPickK N (sStrokes N c) pk).getD 0) (sStrokes N c) pk
  let b := upd (upd a c (nI 1)) (192 + c) (nI j)
  let d := upd b (336 + j) (b (336 + j) + b (128 + c))
  upd d 353 (d 353 + nI 1)
def sCop (f g : Nat → Int32) (i : Nat) : Nat → Int32 := fun k => if k < i then f k else g k
theorem sCop_0 (f g : Nat → Int32) : sCop f g 0 = g := funext fun k => if_neg (Nat.not_lt_zero k)
theorem sCop_1 (f g : Nat → Int32) (i : Nat) : upd (sCop f g i) i (f i) = sCop f g (i + 1) := by
  funext k
  unfold upd sCop
  by_cases h : k = i
  · subst h; rw [if_pos rfl, if_pos (Nat.lt_succ_self _)]
  · rw [if_neg h]
    by_cases h2 : k < i
    · rw [if_pos h2, if_pos (by omega)]
    · rw [if_neg h2, if_neg (by omega)]
/-- what is remembered: the rows of history, and how many -/
def sHist (A : Nat → Nat → Int32) (f : Nat → Int32) (kp : Nat) : Nat → Nat → Int32 :=
  if kp = 8 then (fun i => if 4 ≤ i ∧ i < 11 then A (i + 1) else if i = 11 then f else A i) else va_up A (4 + kp) f
def sShH (A : Nat → Nat → Int32) (k : Nat) : Nat → Nat → Int32 := fun i => if 4 ≤ i ∧ i < 4 + k then A (i + 1) else A i
theorem sShH_0 (A : Nat → Nat → Int32) : sShH A 0 = A := funext fun i => if_neg (by omega)
theorem sShH_1 (A : Nat → Nat → Int32) (k : Nat) : va_up (sShH A k) (4 + k) (sShH A k (4 + (k + 1))) = sShH A (k + 1) := by
  funext i
  unfold va_up sShH
  by_cases h : i = 4 + k
  · subst h; rw [if_pos rfl, if_neg (by omega), if_pos (by omega)]
    rfl
  · rw [if_neg h]
    by_cases h2 : 4 ≤ i ∧ i < 4 + k
    · rw [if_pos h2, if_pos (by omega)]
    · rw [if_neg h2, if_neg (by omega)]
theorem sShH_7 (A : Nat → Nat → Int32) (f : Nat → Int32) : va_up (sShH A 7) (4 + 7) f = sHist A f 8 := by
  funext i
  unfold va_up sShH sHist
  rw [if_pos rfl]
  by_cases h : i = 11
  · subst h; rfl
  · rw [if_neg (by omega)]
    by_cases h2 : 4 ≤ i ∧ i < 11
    · rw [if_pos (by omega), if_pos h2]
    · rw [if_neg (by omega), if_neg h2, if_neg h]
theorem upd_uu (f : Nat → Int32) (k : Nat) (v w : Int32) : upd (upd f k v) k w = upd f k w := by
  funext j
  unfold upd
  by_cases h : j = k
  · rw [if_pos h, if_pos h]
  · rw [if_neg h, if_neg h, if_neg h]
theorem upd_id {f : Nat → Int32} {k : Nat} {v : Int32} (h : f k = v) : upd f k v = f := by
  funext j
  unfold upd
  by_cases hj : j = k
  · rw [if_pos hj, hj, h]
  · rw [if_neg hj]
theorem va_id {α : Type} {f : Nat → α} {k : Nat} {v : α} (h : f k = v) : va_up f k v = f := by
  funext j
  unfold va_up
  by_cases hj : j = k
  · rw [if_pos hj, hj, h]
  · rw [if_neg hj]
def kp1 (kp : Nat) : Nat := if kp = 8 then 8 else kp + 1
/-- the state once a row f is remembered -/
def sRem (S : MSt) (f : Nat → Int32) (kp : Nat) : MSt := (upd S.1 4 (nI (kp1 kp)), sHist S.2 f kp)
theorem sHist_o {A : Nat → Nat → Int32} {f : Nat → Int32} {kp i : Nat} (hk : kp ≤ 8) (hi : i < 4 ∨ 12 ≤ i) : sHist A f kp i = A i := by
  unfold sHist
  split
  · show (if 4 ≤ i ∧ i < 11 then _ else if i = 11 then _ else _) = _
    rw [if_neg (by omega), if_neg (by omega)]
  · exact va_up_ne _ _ (by omega)
/-- .. unless a text is carried out -/
def sChg (S : MSt) (tx : Bool) (kp : Nat) : MSt := if tx = true then S else sRem S (S.2 1) kp
theorem sChg_1 {S : MSt} {tx : Bool} {kp : Nat} (hk : kp ≤ 8) : (sChg S tx kp).2 1 = S.2 1 := by
  unfold sChg
  split
  · rfl
  · exact sHist_o hk (Or.inl (by decide))
theorem sSh_351 {N : Nat → Int32} {j pk k : Nat} {n : Int32} (hk : k ≤ 6) : sShift (upd (sStr1 N j n) 351 (nI (pk - 1))) j k 351 = nI (pk - 1) := by
  unfold sShift
  rw [if_neg (by omega)]
  exact if_pos rfl
theorem sStr1_351 {N : Nat → Int32} {j : Nat} {n : Int32} (hj : j < 6) : sStr1 N j n 351 = N 351 := by
  unfold sStr1 upd
  rw [if_neg (by omega), if_neg (by omega)]
theorem sStr1_j {N : Nat → Int32} {j : Nat} {n : Int32} : sStr1 N j n (344 + j) = N (344 + j) - n := if_pos rfl
theorem sStr1_e {N : Nat → Int32} {j : Nat} {n : Int32} (hj : j < 6) : upd (upd N 354 (N 354 + n)) (344 + j) (upd N 354 (N 354 + n) (344 + j) - n) = sStr1 N j n := by
  unfold sStr1
  rw [show upd N 354 (N 354 + n) (344 + j) = N (344 + j) from if_neg (by omega)]
theorem sChg_t {S : MSt} {tx : Bool} {kp : Nat} (h : tx = true) : S = ((sChg S tx kp).1, va_up (sChg S tx kp).2 1 (S.2 1)) := by
  unfold sChg
  rw [if_pos h, va_id rfl]
theorem sChg_f {S : MSt} {tx : Bool} {kp : Nat} (hk : kp ≤ 8) (h : tx = false) : sRem S (S.2 1) kp = ((sChg S tx kp).1, va_up (sChg S tx kp).2 1 (S.2 1)) := by
  rw [va_id (sChg_1 hk)]
  unfold sChg
  rw [if_neg (by rw [h]; exact Bool.false_ne_true)]
section ROWX
variable {G : fmG} {Γ : fmC} {cc : ByteArray} {nL : Nat} {own nm : String} {ret : Option FieldType} {RM : Room} {tb : List ExceptionTableEntry} {h : fmHp} {kc ks pc : Nat} {L : List (Option Value)} {st : List Value}
/-- what an array holds past its end is nobody's -/
theorem fmH.arx {H : Heap} {a t n : Nat} {b : Bool} {f g : Nat → Int32} (hH : fmH G h H) (he : h a = some (b, .inl (t, n, .inl f))) (hfg : ∀ j, j < n → f j = g j) : fmH G (fmUp h a (b, .inl (t, n, .inl g))) H := by
  refine ⟨fun q b' x hq => ?_, hH.2⟩
  by_cases hqa : q = a
  · subst hqa
    rw [fmUp_s] at hq
    cases hq
    obtain ⟨h1, h2⟩ := hH.1 _ _ _ he
    refine ⟨?_, h2⟩
    have h3 : H[q]? = some (arrV (G.2.1 t) n (fun j => .int (f j))) := h1
    show H[q]? = some (arrV (G.2.1 t) n (fun j => .int (g j)))
    rw [h3, arrV_eq (fun j hj => by rw [hfg j hj])]
  · rw [fmUp_n hqa] at hq
    exact hH.1 _ _ _ hq
theorem r_arx {a t n : Nat} {b : Bool} {f : Nat → Int32} (g : Nat → Int32) (he : h a = some (b, .inl (t, n, .inl f))) (hfg : ∀ j, j < n → f j = g j) (k : fmW G Γ (fmUp h a (b, .inl (t, n, .inl g))) kc ks pc L st) : fmW G Γ h kc ks pc L st :=
  fun H lo c s ls a1 => k H lo c s ls (a1.arx he hfg)
end ROWX
