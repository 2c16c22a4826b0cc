/-! MORE OF THE SEARCH -/
theorem nI_le0 {n : Nat} (hn : n < 2 ^ 31) : nI n ≤ 0 ↔ n = 0 := by
  rw [← nI_0, nI_leI hn (by decide)]
  omega
section ROWN
variable {G : fmG} {Γ : fmC} {cc : ByteArray} {nL : Nat} {own nm : String} {ret : Option FieldType} {RM : Room} {tb : List ExceptionTableEntry} {h : fmHp} {kc ks pc : Nat} {L : List (Option Value)} {st : List Value}
theorem r_ifN_le (E : fmE G Γ cc nL own nm ret RM tb) {n : Nat} {off : Int} {tgt : Nat} (d : decode cc pc = .ok (.ifCond .le off, 3)) (ht : (pc : Int) + off = (tgt : Int)) (hn : n < 2 ^ 31) (kt : n = 0 → fmW G Γ h kc ks tgt L st) (kf : 0 < n → fmW G Γ h kc ks (pc + 3) L st) : fmW G Γ h kc ks pc L (.int (nI n) :: st) :=
  r_if_le E d ht (fun q => kt ((nI_le0 hn).mp q)) (fun q => kf (Nat.pos_of_ne_zero fun z => q ((nI_le0 hn).mpr z)))
theorem r_ifN_gt (E : fmE G Γ cc nL own nm ret RM tb) {n : Nat} {off : Int} {tgt : Nat} (d : decode cc pc = .ok (.ifCond .gt off, 3)) (ht : (pc : Int) + off = (tgt : Int)) (hn : n < 2 ^ 31) (kt : 0 < n → fmW G Γ h kc ks tgt L st) (kf : n = 0 → fmW G Γ h kc ks (pc + 3) L st) : fmW G Γ h kc ks pc L (.int (nI n) :: st) :=
  r_if_gt E d ht (fun q => kt (Nat.pos_of_ne_zero fun z => by rw [z] at q; exact absurd q (by decide))) (fun q => kf (Classical.byContradiction fun z => q (by rw [← nI_0]; exact nI_lt (Nat.pos_of_ne_zero z) hn)))
end ROWN
theorem sNxt_n {F : Nat → Nat} {c i : Nat} (h : sBsd c (3 - i) = none) : sNxt F c (i + 1) = sNxt F c i := by
  conv => lhs; unfold sNxt
  rw [h]
theorem sNxt_0 {F : Nat → Nat} {c i x : Nat} (h : sBsd c (3 - i) = some x) (h2 : ¬ (0 < F x ∧ F x + 1 = F c)) : sNxt F c (i + 1) = sNxt F c i := by
  conv => lhs; unfold sNxt
  rw [h]
  exact if_neg h2
theorem sNxt_1 {F : Nat → Nat} {c i x : Nat} (h : sBsd c (3 - i) = some x) (h2 : 0 < F x ∧ F x + 1 = F c) : sNxt F c (i + 1) = some x := by
  conv => lhs; unfold sNxt
  rw [h]
  exact if_pos h2
def wRes (N : Nat → Int32) (s v : Int32) (K : Nat) : Nat × Option Nat :=
  if (!(sBetween s (nI 0) (nI K - nI 1) && sBetween v (nI 0) (nI 63))) = true then (1, none) else match sFirst N (cN s) (cN v) K with
    | none => (2, none)
    | some x => (0, some x)
theorem wRes_1 {N : Nat → Int32} {s v : Int32} {K : Nat} (h : (!(sBetween s (nI 0) (nI K - nI 1) && sBetween v (nI 0) (nI 63))) = true) : wRes N s v K = (1, none) := if_pos h
theorem wRes_2 {N : Nat → Int32} {s v : Int32} {K : Nat} (h : (!(sBetween s (nI 0) (nI K - nI 1) && sBetween v (nI 0) (nI 63))) = false) (h2 : sFirst N (cN s) (cN v) K = none) : wRes N s v K = (2, none) := by
  unfold wRes
  rw [if_neg (by rw [h]; exact Bool.false_ne_true), h2]
theorem wRes_0 {N : Nat → Int32} {s v : Int32} {K x : Nat} (h : (!(sBetween s (nI 0) (nI K - nI 1) && sBetween v (nI 0) (nI 63))) = false) (h2 : sFirst N (cN s) (cN v) K = some x) : wRes N s v K = (0, some x) := by
  unfold wRes
  rw [if_neg (by rw [h]; exact Bool.false_ne_true), h2]
/-- what a way's answer is by what was found -/
theorem wRes_some {N : Nat → Int32} {s v : Int32} {K x : Nat} (hK8 : K ≤ 8) (h : (wRes N s v K).2 = some x) : ∃ j c, j < K ∧ c < 64 ∧ s = nI j ∧ v = nI c ∧ cN s = j ∧ cN v = c ∧ sFirst N j c K = some x ∧ (wRes N s v K).1 = 0 ∧ (!(sBetween s (nI 0) (nI K - nI 1) && sBetween v (nI 0) (nI 63))) = false := by
  cases e : (!(sBetween s (nI 0) (nI K - nI 1) && sBetween v (nI 0) (nI 63))) with
  | true => rw [wRes_1 e] at h; cases h
  | false =>
    have hb : sBetween s (nI 0) (nI K - nI 1) = true ∧ sBetween v (nI 0) (nI 63) = true := by simpa using e
    obtain ⟨j, hj, rfl⟩ := sShaft_of (by omega) hb.1
    obtain ⟨c, hc, rfl⟩ := sCell_of (by rw [hb.2]; rfl)
    have e1 : cN (nI j) = j := cN_n (by omega)
    have e2 : cN (nI c) = c := cN_n (by omega)
    cases f : sFirst N (cN (nI j)) (cN (nI c)) K with
    | none => rw [wRes_2 e f] at h; cases h
    | some y =>
      rw [wRes_0 e f] at h ⊢
      cases h
      rw [e1, e2] at f
      exact ⟨j, c, hj, hc, rfl, rfl, e1, e2, f, rfl, rfl⟩
theorem aWayG_0 {N : Nat → Int32} {s v : Int32} {K x : Nat} {f : Nat → ARes} (hK8 : K ≤ 8) (h : (wRes N s v K).2 = some x) : aWayG N s v K f = f x := by
  obtain ⟨j, c, _, _, _, _, e1, e2, e3, -, e4⟩ := wRes_some hK8 h
  unfold aWayG
  rw [aG_f e4, e1, e2, e3]
theorem aWayG_n {N : Nat → Int32} {s v : Int32} {K : Nat} {f : Nat → ARes} (h : (wRes N s v K).2 = none) : aWayG N s v K f = aThr (wRes N s v K).1 := by
  cases e : (!(sBetween s (nI 0) (nI K - nI 1) && sBetween v (nI 0) (nI 63))) with
  | true => rw [wRes_1 e]; exact aG_t e
  | false =>
    cases g : sFirst N (cN s) (cN v) K with
    | none => rw [wRes_2 e g]; unfold aWayG; rw [aG_f e, g]
    | some y => rw [wRes_0 e g] at h; cases h
theorem sFirst_lt {N : Nat → Int32} {j c K x : Nat} (h : sFirst N j c K = some x) : x < 64 := sFirK_lt h
theorem sFirst_F {N : Nat → Int32} {j c K x : Nat} (h : sFirst N j c K = some x) : 0 < (bFar N j c K).1 x := sFirK_F h
theorem wRes_31 {N : Nat → Int32} {s v : Int32} {K : Nat} (hK8 : K ≤ 8) : ∀ x, (wRes N s v K).2 = some x → x < 2 ^ 31 := fun x h => by
  obtain ⟨j, c, _, _, _, _, _, _, e3, -⟩ := wRes_some hK8 h
  exact Nat.lt_trans (sFirst_lt e3) (by decide)
/-- a search from many cells at once -/
def bMany (p : Nat → Bool) : Nat → Bf
  | 0 => bZero
  | i + 1 => if p i = true then (updN (bMany p i).1 i 1, updN (bMany p i).2.1 (bMany p i).2.2 i, (bMany p i).2.2 + 1) else bMany p i
theorem bMany_hi {p : Nat → Bool} : ∀ {i c : Nat}, i ≤ c → (bMany p i).1 c = 0
  | 0, _, _ => rfl
  | i + 1, c, h => by
    unfold bMany
    split
    · show updN _ i 1 c = 0
      rw [updN_n (by omega)]
      exact bMany_hi (by omega)
    · exact bMany_hi (by omega)
theorem bMany_ok {p : Nat → Bool} : ∀ i, i ≤ 64 → bOK (bMany p i)
  | 0, _ => bOK_zero
  | i + 1, h => by
    have ih := bMany_ok (p := p) i (by omega)
    unfold bMany
    split
    · exact bOK_add ih (by omega) (bMany_hi (Nat.le_refl _)) (by decide) (by omega)
    · exact ih
def sBeg (N : Nat → Int32) (j K c : Nat) : Bool := decide (N (328 + j) = nI 0) && (sNext N c (nI j) && sFree N c (nI j) K)
def bAll (N : Nat → Int32) (j K : Nat) : Bf := bRun (fun x => sFree N x (nI j) K) (fun _ => 1) 65 0 (bMany (sBeg N j K) 64)
/-- the far array while the search is begun -/
def sMix (p : Nat → Bool) (f : Nat → Int32) (i : Nat) : Nat → Int32 := fun k => if k < i then nI ((bMany p i).1 k) else f k
theorem sMix_0 (p : Nat → Bool) (f : Nat → Int32) : sMix p f 0 = f := funext fun k => if_neg (Nat.not_lt_zero k)
theorem sMix_1 (p : Nat → Bool) (f : Nat → Int32) (i : Nat) : upd (sMix p f i) i (bI (p i)) = sMix p f (i + 1) := by
  funext k
  unfold upd sMix
  by_cases h : k = i
  · subst h
    rw [if_pos rfl, if_pos (Nat.lt_succ_self _)]
    conv => rhs; unfold bMany
    cases hp : p k with
    | true =>
      rw [if_pos rfl]
      show _ = nI (updN _ k 1 k)
      rw [updN_s]; rfl
    | false =>
      rw [if_neg (by decide), bMany_hi (Nat.le_refl _)]; rfl
  · rw [if_neg h]
    by_cases h2 : k < i
    · rw [if_pos h2, if_pos (by omega)]
      conv => rhs; unfold bMany
      split
      · show _ = nI (updN _ i 1 k)
        rw [updN_n h]
      · rfl
    · rw [if_neg h2, if_neg (by omega)]
theorem bMany_q {p : Nat → Bool} {i : Nat} {W : Nat → Int32} (h : bQ (bMany p i) W) (hp : p i = true) : bQ (bMany p (i + 1)) (upd W (bMany p i).2.2 (nI i)) := by
  rw [show bMany p (i + 1) = (updN (bMany p i).1 i 1, updN (bMany p i).2.1 (bMany p i).2.2 i, (bMany p i).2.2 + 1) from if_pos hp]
  exact bQ_add h
theorem bMany_n {p : Nat → Bool} {i : Nat} (hp : p i = false) : bMany p (i + 1) = bMany p i := if_neg (by rw [hp]; exact Bool.false_ne_true)
theorem bMany_n2 {p : Nat → Bool} {i : Nat} (hp : p i = true) : (bMany p (i + 1)).2.2 = (bMany p i).2.2 + 1 := by
  conv => lhs; unfold bMany
  rw [if_pos hp]
