/-! THE ROW: what is told of a row of numbers (both sides are tied to these) -/
def cI (o : Option Nat) : Int32 := match o with
  | none => -1
  | some c => nI c
/-- the cell beside: above, left, right, below -/
def sBsd (c d : Nat) : Option Nat :=
  if d = 0 then (if 8 ≤ c then some (c - 8) else none)
  else if d = 1 then (if 0 < c % 8 then some (c - 1) else none)
  else if d = 2 then (if c % 8 < 7 then some (c + 1) else none)
  else (if c < 56 then some (c + 8) else none)
theorem sBsd_lt {c d x : Nat} (hc : c < 64) (h : sBsd c d = some x) : x < 64 := by
  unfold sBsd at h
  repeat' split at h
  all_goals first | (cases h; omega) | cases h
def sBetween (v a b : Int32) : Bool := !decide (v < a) && !decide (b < v)
def sOpen (N : Nat → Int32) (o : Option Nat) : Bool := match o with
  | none => false
  | some c => decide (N c = nI 1)
def sOpenOf (N : Nat → Int32) (o : Option Nat) (s : Int32) : Bool := match o with
  | none => false
  | some c => decide (N c = nI 1) && decide (N (192 + c) = s)
def sChalk (N : Nat → Int32) (c : Nat) : Bool := decide (N c = nI 0)
def sStrokes (N : Nat → Int32) (c : Nat) : Int32 := nI 2 * N (64 + c) + N (128 + c)
def sNextK (N : Nat → Int32) (c : Nat) (s : Int32) : Nat → Bool
  | 0 => false
  | k + 1 => sNextK N c s k || sOpenOf N (sBsd c k) s
def sNext (N : Nat → Int32) (c : Nat) (s : Int32) : Bool := sNextK N c s 4
/-- the lowest shaft but one beside a cell -/
def sMeetF (N : Nat → Int32) (c : Nat) (own : Int32) (K : Nat) : Nat → Nat → Option Nat
  | 0, _ => none
  | n + 1, j => if j < K then (if nI j ≠ own ∧ sNext N c (nI j) = true then some j else sMeetF N c own K n (j + 1)) else none
def sMeet (N : Nat → Int32) (c : Nat) (own : Int32) (K : Nat) : Option Nat := sMeetF N c own K (K + 1) 0
def sBare (N : Nat → Int32) (o : Option Nat) : Bool := match o with
  | none => false
  | some c => decide (N c = nI 1) && decide (N (256 + c) = nI 0)
def sRunF (N : Nat → Int32) (d : Nat) : Nat → Option Nat → Nat
  | 0, _ => 0
  | _ + 1, none => 0
  | n + 1, some c => if sBare N (some c) = true then sRunF N d n (sBsd c d) + 1 else 0
/-- bare cells in a row from beside c on -/
def sRun (N : Nat → Int32) (c d : Nat) : Nat := sRunF N d 8 (sBsd c d)
theorem sRunF_le (N : Nat → Int32) (d : Nat) : ∀ (n : Nat) (o : Option Nat), sRunF N d n o ≤ n
  | 0, _ => Nat.le_refl _
  | n + 1, none => Nat.zero_le _
  | n + 1, some c => by
    unfold sRunF
    split
    · exact Nat.succ_le_succ (sRunF_le N d n _)
    · exact Nat.zero_le _
theorem sRun_le (N : Nat → Int32) (c d : Nat) : sRun N c d ≤ 8 := sRunF_le N d 8 _
def sSpanWith (N : Nat → Int32) (c : Nat) (col : Bool) : Nat := 1 + sRun N c (if col = true then 0 else 1) + sRun N c (if col = true then 3 else 2)
def sSpan (N : Nat → Int32) (c : Nat) (col : Bool) : Nat := if sBare N (some c) = true then sSpanWith N c col else 0
theorem sSpanWith_le (N : Nat → Int32) (c : Nat) (b : Bool) : sSpanWith N c b ≤ 17 := by
  unfold sSpanWith
  have h1 := sRun_le N c (if b = true then 0 else 1)
  have h2 := sRun_le N c (if b = true then 3 else 2)
  omega
theorem sSpan_le (N : Nat → Int32) (c : Nat) (b : Bool) : sSpan N c b ≤ 17 := by
  unfold sSpan
  split
  · exact sSpanWith_le N c b
  · omega
def sWide (N : Nat → Int32) (c : Nat) : Nat := max (sSpanWith N c true) (sSpanWith N c false)
def sLongK (N : Nat → Int32) : Nat → Nat
  | 0 => 0
  | k + 1 => max (sLongK N k) (if sBare N (some k) = true then sWide N k else 0)
def sLong (N : Nat → Int32) : Nat := sLongK N 64
theorem sWide_le (N : Nat → Int32) (c : Nat) : sWide N c ≤ 17 := Nat.max_le.mpr ⟨sSpanWith_le N c true, sSpanWith_le N c false⟩
theorem sLongK_le (N : Nat → Int32) : ∀ k, sLongK N k ≤ 17
  | 0 => Nat.zero_le _
  | k + 1 => by
    unfold sLongK
    refine Nat.max_le.mpr ⟨sLongK_le N k, ?_⟩
    split
    · exact sWide_le N k
    · omega
/-- which pick serves -/
def sPickK (N : Nat → Int32) (need : Int32) : Nat → Option Nat
  | 0 => none
  | k + 1 => if N (344 + k) ≥ need ∧ (sPickK N need k = none ∨ N (344 + k) < N (344 + (sPickK N need k).getD 0)) then some k else sPickK N need k
theorem sPickK_lt {N : Nat → Int32} {need : Int32} : ∀ {k x : Nat}, sPickK N need k = some x → x < k
  | 0, _, h => by cases h
  | k + 1, x, h => by
    unfold sPickK at h
    split at h
    · cases h; omega
    · exact Nat.lt_succ_of_lt (sPickK_lt h)
/-- counting and adding over cells -/
def sCount (p : Nat → Bool) : Nat → Nat
  | 0 => 0
  | k + 1 => sCount p k + (if p k = true then 1 else 0)
theorem sCount_le (p : Nat → Bool) : ∀ k, sCount p k ≤ k
  | 0 => Nat.le_refl _
  | k + 1 => by
    unfold sCount
    have := sCount_le p k
    split <;> omega
def sSum (f : Nat → Int32) : Nat → Int32
  | 0 => 0
  | k + 1 => sSum f k + f k
def refF (s : Nat → Int32) (c : Bool) (why more : Int32) : Nat → Int32 := if c = true then upd (upd s 5 why) 6 more else s
theorem cI_lt {o : Option Nat} (ho : ∀ c, o = some c → c < 2 ^ 31) : cI o < 0 ↔ o = none := by
  cases o with
  | none => exact ⟨fun _ => rfl, fun _ => by decide⟩
  | some c => exact ⟨fun h => absurd h (nI_pos (ho c rfl)), fun h => by cases h⟩
theorem cI_ge {o : Option Nat} (ho : ∀ c, o = some c → c < 2 ^ 31) : 0 ≤ cI o ↔ ¬ o = none := by
  cases o with
  | none => exact ⟨fun h => absurd h (by decide), fun h => absurd rfl h⟩
  | some c => exact ⟨fun _ h => (by cases h), fun _ => nI_pos' (ho c rfl)⟩
section ROWC
variable {G : fmG} {Γ : fmC} {cc : ByteArray} {nL : Nat} {own nm : String} {ret : Option FieldType} {RM : Room} {tb : List ExceptionTableEntry} {h : fmHp} {kc ks pc : Nat} {L : List (Option Value)} {st : List Value}
theorem r_ifC_lt (E : fmE G Γ cc nL own nm ret RM tb) {o : Option Nat} {off : Int} {tgt : Nat} (d : decode cc pc = .ok (.ifCond .lt off, 3)) (ht : (pc : Int) + off = (tgt : Int)) (ho : ∀ c, o = some c → c < 2 ^ 31) (kt : o = none → fmW G Γ h kc ks tgt L st) (kf : ¬ o = none → fmW G Γ h kc ks (pc + 3) L st) : fmW G Γ h kc ks pc L (.int (cI o) :: st) :=
  r_if_lt E d ht (fun q => kt ((cI_lt ho).mp q)) (fun q => kf (fun z => q ((cI_lt ho).mpr z)))
theorem r_ifC_ge (E : fmE G Γ cc nL own nm ret RM tb) {o : Option Nat} {off : Int} {tgt : Nat} (d : decode cc pc = .ok (.ifCond .ge off, 3)) (ht : (pc : Int) + off = (tgt : Int)) (ho : ∀ c, o = some c → c < 2 ^ 31) (kt : ¬ o = none → fmW G Γ h kc ks tgt L st) (kf : o = none → fmW G Γ h kc ks (pc + 3) L st) : fmW G Γ h kc ks pc L (.int (cI o) :: st) :=
  r_if_ge E d ht (fun q => kt ((cI_ge ho).mp q)) (fun q => kf (Classical.byContradiction fun z => q ((cI_ge ho).mpr z)))
end ROWC
theorem sMeetF_lt {N : Nat → Int32} {c : Nat} {own : Int32} {K : Nat} : ∀ {n j x : Nat}, sMeetF N c own K n j = some x → x < K
  | 0, _, _, h => by cases h
  | n + 1, j, x, h => by
    unfold sMeetF at h
    split at h
    · split at h
      · cases h; assumption
      · exact sMeetF_lt h
    · cases h
theorem sMeet_lt {N : Nat → Int32} {c : Nat} {own : Int32} {K x : Nat} (h : sMeet N c own K = some x) : x < K := sMeetF_lt h
