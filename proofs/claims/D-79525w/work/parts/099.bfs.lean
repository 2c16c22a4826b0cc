/-! SEARCH: how far, by breadth first; told once for both sides -/
abbrev Bf : Type := (Nat → Nat) × (Nat → Nat) × Nat
def updN (f : Nat → Nat) (k x : Nat) : Nat → Nat := fun j => if j = k then x else f j
theorem updN_s {f : Nat → Nat} {k x : Nat} : updN f k x k = x := if_pos rfl
theorem updN_n {f : Nat → Nat} {k x j : Nat} (h : j ≠ k) : updN f k x j = f j := if_neg h
/-- one side of the k-th of the queue; g tells the new number from the old; P whether a cell may be gone through -/
def bStep (P : Nat → Bool) (g : Nat → Nat) (k d : Nat) (b : Bf) : Bf := match sBsd (b.2.1 k) d with
  | none => b
  | some x => if b.1 x = 0 ∧ P x = true then (updN b.1 x (g (b.1 (b.2.1 k))), updN b.2.1 b.2.2 x, b.2.2 + 1) else b
def bSide (P : Nat → Bool) (g : Nat → Nat) (k : Nat) : Nat → Bf → Bf
  | 0, b => b
  | d + 1, b => bStep P g k d (bSide P g k d b)
def bRun (P : Nat → Bool) (g : Nat → Nat) : Nat → Nat → Bf → Bf
  | 0, _, b => b
  | t + 1, k, b => if k < b.2.2 then bRun P g t (k + 1) (bSide P g k 4 b) else b
def bZero : Bf := (fun _ => 0, fun _ => 0, 0)
/-- the search's start: one cell, if it may be gone through -/
def bOne (c : Nat) (ok : Bool) : Bf := if ok = true then (updN (fun _ => 0) c 1, updN (fun _ => 0) 0 c, 1) else bZero
theorem sCount_up {p q : Nat → Bool} {x : Nat} (hp : p x = false) (hq : q x = true) (ho : ∀ c, c ≠ x → q c = p c) : ∀ m, sCount q m = sCount p m + (if x < m then 1 else 0)
  | 0 => by rw [if_neg (Nat.not_lt_zero _)]; rfl
  | m + 1 => by
    unfold sCount
    rw [sCount_up hp hq ho m]
    by_cases h : m = x
    · subst h
      rw [hq, hp, if_neg (Nat.lt_irrefl _), if_pos rfl, if_neg (by decide), if_pos (Nat.lt_succ_self _)]
    · rw [ho m h]
      by_cases h2 : x < m
      · rw [if_pos h2, if_pos (show x < m + 1 by omega)]; omega
      · rw [if_neg h2, if_neg (show ¬ x < m + 1 by omega)]; omega
theorem sCount_lt {p : Nat → Bool} {x : Nat} (hp : p x = false) : ∀ m, x < m → sCount p m < m
  | 0, h => absurd h (Nat.not_lt_zero _)
  | m + 1, h => by
    unfold sCount
    have hle := sCount_le p m
    by_cases hm : m = x
    · subst hm; rw [hp, if_neg (by decide)]; omega
    · have := sCount_lt hp m (by omega)
      split <;> omega
theorem sCount_z {p : Nat → Bool} (h : ∀ c, p c = false) : ∀ m, sCount p m = 0
  | 0 => rfl
  | m + 1 => by unfold sCount; rw [sCount_z h m, h m]; rfl
theorem sBsd_sym {c d x : Nat} (hc : c < 64) (hd : d < 4) (h : sBsd c d = some x) : sBsd x (3 - d) = some c := by
  have key : ∀ c : Fin 64, ∀ d : Fin 4, ∀ x : Fin 64, sBsd c.val d.val = some x.val → sBsd x.val (3 - d.val) = some c.val := by decide +kernel
  exact key ⟨c, hc⟩ ⟨d, hd⟩ ⟨x, sBsd_lt hc h⟩ h
/-- what holds all along -/
def bOK (b : Bf) : Prop := (∀ k, k < b.2.2 → b.2.1 k < 64 ∧ b.1 (b.2.1 k) ≠ 0) ∧ sCount (fun c => decide (b.1 c ≠ 0)) 64 = b.2.2 ∧ (∀ c, b.1 c ≤ b.2.2)
theorem bOK.n {b : Bf} (h : bOK b) : b.2.2 ≤ 64 := by rw [← h.2.1]; exact sCount_le _ 64
theorem bOK.lt {b : Bf} (h : bOK b) {x : Nat} (hx : x < 64) (h0 : b.1 x = 0) : b.2.2 < 64 := by
  rw [← h.2.1]
  exact sCount_lt (x := x) (by simp [h0]) 64 hx
theorem bOK.f {b : Bf} (h : bOK b) (c : Nat) : b.1 c ≤ 64 := Nat.le_trans (h.2.2 c) h.n
theorem bOK_zero : bOK bZero := ⟨fun k hk => absurd hk (Nat.not_lt_zero k), sCount_z (fun _ => rfl) 64, fun _ => Nat.le_refl _⟩
/-- a cell is added -/
theorem bOK_add {b : Bf} (h : bOK b) {x v : Nat} (hx : x < 64) (h0 : b.1 x = 0) (hv : v ≠ 0) (hv2 : v ≤ b.2.2 + 1) : bOK (updN b.1 x v, updN b.2.1 b.2.2 x, b.2.2 + 1) := by
  refine ⟨fun k hk => ?_, ?_, fun c => ?_⟩
  · show updN b.2.1 b.2.2 x k < 64 ∧ updN b.1 x v (updN b.2.1 b.2.2 x k) ≠ 0
    by_cases hkn : k = b.2.2
    · subst hkn
      rw [updN_s, updN_s]
      exact ⟨hx, hv⟩
    · rw [updN_n hkn]
      obtain ⟨h1, h2⟩ := h.1 k (by have : k < b.2.2 + 1 := hk; omega)
      exact ⟨h1, by rw [updN_n (fun e => h2 (by rw [e]; exact h0))]; exact h2⟩
  · show sCount (fun c => decide (updN b.1 x v c ≠ 0)) 64 = b.2.2 + 1
    rw [sCount_up (p := fun c => decide (b.1 c ≠ 0)) (x := x) (by simp [h0]) (by simp [updN_s, hv]) (fun c hc => by simp only [updN_n hc]) 64, if_pos hx, h.2.1]
  · show updN b.1 x v c ≤ b.2.2 + 1
    by_cases hc : c = x
    · subst hc; rw [updN_s]; exact hv2
    · rw [updN_n hc]; exact Nat.le_trans (h.2.2 c) (Nat.le_succ _)
theorem bOK_one {c : Nat} (hc : c < 64) (ok : Bool) : bOK (bOne c ok) := by
  unfold bOne
  split
  · exact bOK_add bOK_zero hc rfl (by decide) (by decide)
  · exact bOK_zero
def bG (g : Nat → Nat) : Prop := ∀ v, g v ≠ 0 ∧ g v ≤ v + 1
theorem bG_s : bG Nat.succ := fun v => ⟨Nat.succ_ne_zero v, Nat.le_refl _⟩
theorem bG_1 : bG (fun _ => 1) := fun v => ⟨Nat.one_ne_zero, Nat.le_add_left 1 v⟩
theorem bStep_ok {P : Nat → Bool} {g : Nat → Nat} (hg : bG g) {k d : Nat} {b : Bf} (h : bOK b) (hk : k < b.2.2) : bOK (bStep P g k d b) := by
  unfold bStep
  split
  · exact h
  · rename_i x hx
    split
    · rename_i hq
      refine bOK_add h (sBsd_lt (h.1 k hk).1 hx) hq.1 (hg _).1 ?_
      have := (hg (b.1 (b.2.1 k))).2
      have := h.2.2 (b.2.1 k)
      omega
    · exact h
theorem bStep_n {P : Nat → Bool} {g : Nat → Nat} {k d : Nat} {b : Bf} : b.2.2 ≤ (bStep P g k d b).2.2 := by
  unfold bStep
  split
  · exact Nat.le_refl _
  · split
    · exact Nat.le_succ _
    · exact Nat.le_refl _
theorem bStep_q {P : Nat → Bool} {g : Nat → Nat} {k d j : Nat} {b : Bf} (hj : j < b.2.2) : (bStep P g k d b).2.1 j = b.2.1 j := by
  unfold bStep
  split
  · rfl
  · split
    · exact updN_n (by omega)
    · rfl
theorem bSide_ok {P : Nat → Bool} {g : Nat → Nat} (hg : bG g) {k : Nat} {b : Bf} (h : bOK b) (hk : k < b.2.2) : ∀ d, bOK (bSide P g k d b) ∧ b.2.2 ≤ (bSide P g k d b).2.2 ∧ ∀ j, j < b.2.2 → (bSide P g k d b).2.1 j = b.2.1 j
  | 0 => ⟨h, Nat.le_refl _, fun _ _ => rfl⟩
  | d + 1 => by
    obtain ⟨h1, h2, h3⟩ := bSide_ok hg h hk d
    exact ⟨bStep_ok hg h1 (by omega), Nat.le_trans h2 bStep_n, fun j hj => by unfold bSide; rw [bStep_q (by omega)]; exact h3 j hj⟩
theorem bRun_ok {P : Nat → Bool} {g : Nat → Nat} (hg : bG g) : ∀ (t k : Nat) {b : Bf}, bOK b → bOK (bRun P g t k b)
  | 0, _, _, h => h
  | t + 1, k, b, h => by
    unfold bRun
    split
    · exact bRun_ok hg t (k + 1) (bSide_ok hg h (by assumption) 4).1
    · exact h
/-- the cell before, on the way back -/
def bPre (F : Nat → Nat) : Prop := ∀ x, x < 64 → 2 ≤ F x → ∃ d y, d < 4 ∧ sBsd x d = some y ∧ F y + 1 = F x
theorem bStep_pre {P : Nat → Bool} {k d : Nat} (hd : d < 4) {b : Bf} (h : bOK b) (hk : k < b.2.2) (hp : bPre b.1) : bPre (bStep P Nat.succ k d b).1 := by
  unfold bStep
  split
  · exact hp
  · rename_i x hx
    split
    · rename_i hq
      intro z hz h2
      obtain ⟨c1, c2⟩ := h.1 k hk
      have hcx : b.2.1 k ≠ x := fun e => c2 (by rw [e]; exact hq.1)
      by_cases hzx : z = x
      · subst hzx
        refine ⟨3 - d, b.2.1 k, by omega, sBsd_sym c1 hd hx, ?_⟩
        show updN b.1 z _ (b.2.1 k) + 1 = updN b.1 z _ z
        rw [updN_n hcx, updN_s]
      · have h3 : 2 ≤ b.1 z := by
          have h4 : 2 ≤ updN b.1 x (Nat.succ (b.1 (b.2.1 k))) z := h2
          rwa [updN_n hzx] at h4
        obtain ⟨d', y, e1, e2, e3⟩ := hp z hz h3
        refine ⟨d', y, e1, e2, ?_⟩
        show updN b.1 x _ y + 1 = updN b.1 x _ z
        rw [updN_n hzx, updN_n (fun e => by rw [e, hq.1] at e3; omega)]
        exact e3
    · exact hp
theorem bSide_pre {P : Nat → Bool} {k : Nat} {b : Bf} (h : bOK b) (hk : k < b.2.2) (hp : bPre b.1) : ∀ d, d ≤ 4 → bPre (bSide P Nat.succ k d b).1
  | 0, _ => hp
  | d + 1, hd => by
    obtain ⟨h1, h2, -⟩ := bSide_ok (P := P) bG_s h hk d
    exact bStep_pre (by omega) h1 (by omega) (bSide_pre h hk hp d (by omega))
theorem bRun_pre {P : Nat → Bool} : ∀ (t k : Nat) {b : Bf}, bOK b → bPre b.1 → bPre (bRun P Nat.succ t k b).1
  | 0, _, _, _, hp => hp
  | t + 1, k, b, h, hp => by
    unfold bRun
    split
    · exact bRun_pre t (k + 1) (bSide_ok bG_s h (by assumption) 4).1 (bSide_pre h (by assumption) hp 4 (Nat.le_refl _))
    · exact hp
theorem bOne_le {c : Nat} {ok : Bool} (x : Nat) : (bOne c ok).1 x ≤ 1 := by
  unfold bOne
  split
  · show updN (fun _ => 0) c 1 x ≤ 1
    unfold updN
    split
    · exact Nat.le_refl _
    · exact Nat.zero_le _
  · exact Nat.zero_le _
theorem bOne_pre {c : Nat} {ok : Bool} : bPre (bOne c ok).1 := fun x _ h2 => absurd (bOne_le (c := c) (ok := ok) x) (by omega)
/-- how far each cell is from c, for shaft j -/
def bFar (N : Nat → Int32) (j c K : Nat) : Bf := bRun (fun x => sFree N x (nI j) K) Nat.succ 65 0 (bOne c (sFree N c (nI j) K && decide (N (328 + j) = nI 0)))
theorem bFar_ok {N : Nat → Int32} {j c K : Nat} (hc : c < 64) : bOK (bFar N j c K) := bRun_ok bG_s 65 0 (bOK_one hc _)
theorem bFar_pre {N : Nat → Int32} {j c K : Nat} (hc : c < 64) : bPre (bFar N j c K).1 := bRun_pre 65 0 (bOK_one hc _) bOne_pre
def sFirK (N : Nat → Int32) (F : Nat → Nat) (s : Int32) : Nat → Option Nat
  | 0 => none
  | k + 1 => if (0 < F k ∧ sNext N k s = true) ∧ (sFirK N F s k = none ∨ F k < F ((sFirK N F s k).getD 0)) then some k else sFirK N F s k
theorem sFirK_lt {N : Nat → Int32} {F : Nat → Nat} {s : Int32} : ∀ {k x : Nat}, sFirK N F s k = some x → x < k
  | 0, _, h => by cases h
  | k + 1, x, h => by
    unfold sFirK at h
    split at h
    · cases h; omega
    · exact Nat.lt_succ_of_lt (sFirK_lt h)
theorem sFirK_no {N : Nat → Int32} {F : Nat → Nat} {s : Int32} {k : Nat} (h : decide (0 < F k ∧ sNext N k s = true) = false) : sFirK N F s (k + 1) = sFirK N F s k := if_neg fun q => of_decide_eq_false h q.1
theorem sFirK_first {N : Nat → Int32} {F : Nat → Nat} {s : Int32} {k : Nat} (h : decide (0 < F k ∧ sNext N k s = true) = true) (h1 : sFirK N F s k = none) : sFirK N F s (k + 1) = some k := if_pos ⟨of_decide_eq_true h, Or.inl h1⟩
theorem sFirK_take {N : Nat → Int32} {F : Nat → Nat} {s : Int32} {k x : Nat} (h : decide (0 < F k ∧ sNext N k s = true) = true) (h1 : sFirK N F s k = some x) (h2 : F k < F x) : sFirK N F s (k + 1) = some k := if_pos ⟨of_decide_eq_true h, Or.inr (by rw [h1]; exact h2)⟩
theorem sFirK_keep {N : Nat → Int32} {F : Nat → Nat} {s : Int32} {k x : Nat} (h1 : sFirK N F s k = some x) (h2 : ¬ F k < F x) : sFirK N F s (k + 1) = sFirK N F s k := if_neg fun q => q.2.elim (fun z => by rw [h1] at z; cases z) (fun z => by rw [h1] at z; exact h2 z)
theorem sFirK_F {N : Nat → Int32} {F : Nat → Nat} {s : Int32} : ∀ {k x : Nat}, sFirK N F s k = some x → 0 < F x
  | 0, _, h => by cases h
  | k + 1, x, h => by
    unfold sFirK at h
    split at h
    · rename_i q; cases h; exact q.1.1
    · exact sFirK_F h
/-- the next of a way: of the sides from the last on, i done -/
def sNxt (F : Nat → Nat) (c : Nat) : Nat → Option Nat
  | 0 => none
  | i + 1 => match sBsd c (3 - i) with
    | none => sNxt F c i
    | some x => if 0 < F x ∧ F x + 1 = F c then some x else sNxt F c i
theorem sNxt_lt {F : Nat → Nat} {c : Nat} (hc : c < 64) : ∀ {i x : Nat}, sNxt F c i = some x → x < 64 ∧ F x + 1 = F c ∧ 0 < F x
  | 0, _, h => by cases h
  | i + 1, x, h => by
    unfold sNxt at h
    split at h
    · exact sNxt_lt hc h
    · rename_i y hy
      split at h
      · rename_i q; cases h; exact ⟨sBsd_lt hc hy, q.2, q.1⟩
      · exact sNxt_lt hc h
theorem sNxt_some {F : Nat → Nat} {c d y : Nat} (h1 : sBsd c d = some y) (h2 : 0 < F y) (h3 : F y + 1 = F c) : ∀ i, i ≤ 4 → 4 - i ≤ d → d < 4 → ∃ x, sNxt F c i = some x
  | 0, _, h, hd => by omega
  | i + 1, hi, hd, h4 => by
    unfold sNxt
    by_cases e : d = 3 - i
    · subst e
      rw [h1]
      exact ⟨y, if_pos ⟨h2, h3⟩⟩
    · split
      · exact sNxt_some h1 h2 h3 i (by omega) (by omega) h4
      · split
        · exact ⟨_, rfl⟩
        · exact sNxt_some h1 h2 h3 i (by omega) (by omega) h4
theorem sNxt_pre {F : Nat → Nat} (hp : bPre F) {c : Nat} (hc : c < 64) (h2 : 2 ≤ F c) : ∃ x, sNxt F c 4 = some x := by
  obtain ⟨d, y, e1, e2, e3⟩ := hp c hc h2
  exact sNxt_some e2 (by omega) e3 4 (Nat.le_refl _) (by omega) e1
theorem sNxt_31 {F : Nat → Nat} {c i : Nat} (hc : c < 64) : ∀ x, sNxt F c i = some x → x < 2 ^ 31 := fun x h => Nat.lt_trans (sNxt_lt hc h).1 (by decide)
theorem sNxt_end {F : Nat → Nat} {c : Nat} (hc : c < 64) (h1 : F c = 1) : sNxt F c 4 = none := by
  cases e : sNxt F c 4 with
  | none => rfl
  | some x => have := sNxt_lt hc e; omega
/-- i steps on -/
def sWalk (F : Nat → Nat) (c : Nat) : Nat → Nat
  | 0 => c
  | i + 1 => (sNxt F (sWalk F c i) 4).getD 0
theorem sWalk_ok {F : Nat → Nat} (hp : bPre F) {c : Nat} (hc : c < 64) : ∀ i, i < F c → sWalk F c i < 64 ∧ F (sWalk F c i) + i = F c
  | 0, _ => ⟨hc, rfl⟩
  | i + 1, h => by
    obtain ⟨h1, h2⟩ := sWalk_ok hp hc i (by omega)
    obtain ⟨x, hx⟩ := sNxt_pre hp h1 (by omega)
    have := sNxt_lt h1 hx
    unfold sWalk
    rw [hx]
    show x < 64 ∧ F x + (i + 1) = F c
    exact ⟨this.1, by omega⟩
/-- strokes along a way -/
def sWayS (N : Nat → Int32) (F : Nat → Nat) (c : Nat) : Nat → Int32
  | 0 => nI 0
  | i + 1 => sWayS N F c i + sStrokes N (sWalk F c i)
def sFirst (N : Nat → Int32) (j c K : Nat) : Option Nat := sFirK N (bFar N j c K).1 (nI j) 64
def aWayG (N : Nat → Int32) (s v : Int32) (K : Nat) (f : Nat → ARes) : ARes :=
  aG (!(sBetween s (nI 0) (nI K - nI 1) && sBetween v (nI 0) (nI 63))) (aThr 1) <| match sFirst N (cN s) (cN v) K with
    | none => aThr 2
    | some x => f x
def aWay (N : Nat → Int32) (s v : Int32) (K : Nat) : ARes := aWayG N s v K (fun x => aDon (nI ((bFar N (cN s) (cN v) K).1 x)) N)
def aStep (N : Nat → Int32) (s v i : Int32) (K : Nat) : ARes := aWayG N s v K (fun x => aG (!sBetween i (nI 0) (nI ((bFar N (cN s) (cN v) K).1 x - 1))) (aThr 2) (aDon (nI (sWalk (bFar N (cN s) (cN v) K).1 x (cN i))) N))
def aStrokes (N : Nat → Int32) (s v : Int32) (K : Nat) : ARes := aWayG N s v K (fun x => aDon (sWayS N (bFar N (cN s) (cN v) K).1 x ((bFar N (cN s) (cN v) K).1 x)) N)
theorem upd_nI {F : Nat → Nat} {x v : Nat} : upd (fun z => nI (F z)) x (nI v) = fun z => nI (updN F x v z) := by
  funext z
  unfold upd updN
  split <;> rfl
theorem va_4 {A : Nat → Nat → Int32} {X W X2 W2 : Nat → Int32} : va_up (va_up (va_up (va_up A 12 X) 13 W) 12 X2) 13 W2 = va_up (va_up A 12 X2) 13 W2 := by
  funext j
  by_cases h : j = 13
  · simp [va_up, h]
  · by_cases h2 : j = 12
    · simp [va_up, h2]
    · simp [va_up, h, h2]
/-- an array holds the queue -/
def bQ (b : Bf) (W : Nat → Int32) : Prop := ∀ k, k < b.2.2 → W k = nI (b.2.1 k)
theorem bQ_zero (W : Nat → Int32) : bQ bZero W := fun k h => absurd h (Nat.not_lt_zero k)
theorem bQ_add {b : Bf} {W : Nat → Int32} (h : bQ b W) {F' : Nat → Nat} {x : Nat} : bQ (F', updN b.2.1 b.2.2 x, b.2.2 + 1) (upd W b.2.2 (nI x)) := fun k hk => by
  show upd W b.2.2 (nI x) k = nI (updN b.2.1 b.2.2 x k)
  unfold upd updN
  by_cases e : k = b.2.2
  · rw [if_pos e, if_pos e]
  · rw [if_neg e, if_neg e]
    exact h k (by have : k < b.2.2 + 1 := hk; omega)
theorem bStep_none {P : Nat → Bool} {g : Nat → Nat} {k d : Nat} {b : Bf} (h : sBsd (b.2.1 k) d = none) : bStep P g k d b = b := by unfold bStep; rw [h]
theorem bStep_no {P : Nat → Bool} {g : Nat → Nat} {k d x : Nat} {b : Bf} (h : sBsd (b.2.1 k) d = some x) (h2 : ¬ (b.1 x = 0 ∧ P x = true)) : bStep P g k d b = b := by unfold bStep; rw [h]; exact if_neg h2
theorem bStep_yes {P : Nat → Bool} {g : Nat → Nat} {k d x : Nat} {b : Bf} (h : sBsd (b.2.1 k) d = some x) (h2 : b.1 x = 0 ∧ P x = true) : bStep P g k d b = (updN b.1 x (g (b.1 (b.2.1 k))), updN b.2.1 b.2.2 x, b.2.2 + 1) := by unfold bStep; rw [h]; exact if_pos h2
theorem bRun_end {P : Nat → Bool} {g : Nat → Nat} {t k : Nat} {b : Bf} (h : b.2.2 ≤ k) : bRun P g t k b = b := by
  cases t with
  | zero => rfl
  | succ t => exact if_neg (Nat.not_lt.mpr h)
theorem bRun_go {P : Nat → Bool} {g : Nat → Nat} {t k : Nat} {b : Bf} (h : k < b.2.2) : bRun P g (t + 1) k b = bRun P g t (k + 1) (bSide P g k 4 b) := if_pos h
theorem bOne_t {c : Nat} {ok : Bool} (h : ok = true) : bOne c ok = (updN (fun _ => 0) c 1, updN (fun _ => 0) 0 c, 1) := if_pos h
theorem bOne_f {c : Nat} {ok : Bool} (h : ok = false) : bOne c ok = bZero := if_neg (by rw [h]; exact Bool.false_ne_true)
def sClr (f : Nat → Int32) (i : Nat) : Nat → Int32 := fun k => if k < i then nI 0 else f k
theorem sClr_0 (f : Nat → Int32) : sClr f 0 = f := funext fun k => if_neg (Nat.not_lt_zero k)
theorem sClr_1 (f : Nat → Int32) (i : Nat) : upd (sClr f i) i (nI 0) = sClr f (i + 1) := by
  funext k
  unfold upd sClr
  by_cases h : k = i
  · subst h; rw [if_pos rfl, if_pos (Nat.lt_succ_self _)]
  · rw [if_neg h]
    by_cases h2 : k < i
    · rw [if_pos h2, if_pos (by omega)]
    · rw [if_neg h2, if_neg (by omega)]
