/-! REACHED: the search from many cells finds what has a way -/
def mG : Nat → Nat := fun _ => 1
def mSnd (P S : Nat → Bool) (b : Bf) : Prop := ∀ x, b.1 x ≠ 0 → x < 64 ∧ ∃ k, lay P S k x
def mDone (P : Nat → Bool) (b : Bf) (i d : Nat) : Prop := ∀ e, e < d → ∀ y, sBsd (b.2.1 i) e = some y → P y = true → b.1 y ≠ 0
def mB (P : Nat → Bool) (k : Nat) (b : Bf) : Prop := (∀ i, i < k → i < b.2.2 → mDone P b i 4) ∧ (∀ x, b.1 x ≠ 0 → ∃ i, i < b.2.2 ∧ b.2.1 i = x)
theorem mStep {P S : Nat → Bool} {k d : Nat} (hd : d < 4) {b : Bf} (hok : bOK b) (hk : k < b.2.2) (hs : mSnd P S b) (h : mB P k b ∧ mDone P b k d) : mSnd P S (bStep P mG k d b) ∧ mB P k (bStep P mG k d b) ∧ mDone P (bStep P mG k d b) k (d + 1) := by
  obtain ⟨⟨h1, h4⟩, h1'⟩ := h
  unfold bStep
  split
  · rename_i hx
    refine ⟨hs, ⟨h1, h4⟩, fun e he y hy hP => ?_⟩
    by_cases hed : e = d
    · subst hed; rw [hx] at hy; cases hy
    · exact h1' e (by omega) y hy hP
  · rename_i x hx
    split
    · rename_i hq
      obtain ⟨c1, c2⟩ := hok.1 k hk
      have hQ : ∀ i, i < b.2.2 → updN b.2.1 b.2.2 x i = b.2.1 i := fun i hi => updN_n (by omega)
      have hF : ∀ y, b.1 y ≠ 0 → updN b.1 x (mG (b.1 (b.2.1 k))) y ≠ 0 := fun y hy => by
        rw [updN_n (fun z => hy (by rw [z]; exact hq.1))]
        exact hy
      have hFx : updN b.1 x (mG (b.1 (b.2.1 k))) x ≠ 0 := by rw [updN_s]; exact Nat.one_ne_zero
      refine ⟨fun z hz => ?_, ⟨fun i hi hin => ?_, fun z hz => ?_⟩, fun e he y hy hP => ?_⟩
      · by_cases hzx : z = x
        · subst hzx
          obtain ⟨-, k', hk'⟩ := hs _ c2
          exact ⟨sBsd_lt c1 hx, k' + 1, Or.inr ⟨hq.2, Or.inr ⟨b.2.1 k, hk', 3 - d, by omega, sBsd_sym c1 hd hx⟩⟩⟩
        · exact hs z (by
            have h5 : updN b.1 x (mG (b.1 (b.2.1 k))) z ≠ 0 := hz
            rwa [updN_n hzx] at h5)
      · intro e he y hy hP
        by_cases hi2 : i < b.2.2
        · have hy2 : sBsd (b.2.1 i) e = some y := by
            have : sBsd (updN b.2.1 b.2.2 x i) e = some y := hy
            rwa [hQ i hi2] at this
          exact hF y (h1 i hi hi2 e he y hy2 hP)
        · omega
      · by_cases hzx : z = x
        · exact ⟨b.2.2, Nat.lt_succ_self _, by rw [hzx]; exact updN_s⟩
        · have hz2 : b.1 z ≠ 0 := by
            have h5 : updN b.1 x (mG (b.1 (b.2.1 k))) z ≠ 0 := hz
            rwa [updN_n hzx] at h5
          obtain ⟨i, hi, hiz⟩ := h4 z hz2
          exact ⟨i, Nat.lt_succ_of_lt hi, (hQ i hi).trans hiz⟩
      · have hy2 : sBsd (b.2.1 k) e = some y := by
          have : sBsd (updN b.2.1 b.2.2 x k) e = some y := hy
          rwa [hQ k hk] at this
        by_cases hed : e = d
        · subst hed
          rw [hx] at hy2
          cases hy2
          exact hFx
        · exact hF y (h1' e (by omega) y hy2 hP)
    · rename_i hq
      refine ⟨hs, ⟨h1, h4⟩, fun e he y hy hP => ?_⟩
      by_cases hed : e = d
      · subst hed
        rw [hx] at hy
        cases hy
        exact fun z => hq ⟨z, hP⟩
      · exact h1' e (by omega) y hy hP
theorem mSide {P S : Nat → Bool} {k : Nat} {b : Bf} (hok : bOK b) (hk : k < b.2.2) (hs : mSnd P S b) (h : mB P k b) : ∀ d, d ≤ 4 → mSnd P S (bSide P mG k d b) ∧ mB P k (bSide P mG k d b) ∧ mDone P (bSide P mG k d b) k d
  | 0, _ => ⟨hs, h, fun _ he => absurd he (Nat.not_lt_zero _)⟩
  | d + 1, hd => by
    obtain ⟨h1, h2, -⟩ := bSide_ok (P := P) (g := mG) bG_1 hok hk d
    obtain ⟨k1, k2⟩ := mSide hok hk hs h d (by omega)
    exact mStep (by omega) h1 (by omega) k1 k2
theorem mRun {P S : Nat → Bool} : ∀ (t k : Nat) {b : Bf}, t + k = 65 → bOK b → mSnd P S b → mB P k b → mSnd P S (bRun P mG t k b) ∧ mB P 65 (bRun P mG t k b)
  | 0, k, b, ht, _, hs, h => by
    have : k = 65 := by omega
    subst this
    exact ⟨hs, h⟩
  | t + 1, k, b, ht, hok, hs, h => by
    unfold bRun
    split
    · rename_i hk
      obtain ⟨e1, e2, e3⟩ := bSide_ok (P := P) (g := mG) bG_1 hok hk 4
      obtain ⟨k1, ⟨k2, k4⟩, k3⟩ := mSide hok hk hs h 4 (Nat.le_refl _)
      refine mRun t (k + 1) (by omega) e1 k1 ⟨fun i hi hin => ?_, k4⟩
      by_cases hik : i = k
      · subst hik; exact k3
      · exact k2 i (by omega) hin
    · exact ⟨hs, fun i hi hin => h.1 i (by omega) hin, h.2⟩
theorem mKeep {P : Nat → Bool} : ∀ (t k : Nat) {b : Bf} {x : Nat}, b.1 x ≠ 0 → (bRun P mG t k b).1 x ≠ 0
  | 0, _, _, _, h => h
  | t + 1, k, b, x, h => by
    have hstep : ∀ d (b : Bf), b.1 x ≠ 0 → (bStep P mG k d b).1 x ≠ 0 := fun d b h => by
      unfold bStep
      split
      · exact h
      · split
        · rename_i hq
          show updN b.1 _ _ x ≠ 0
          rw [updN_n (fun z => h (by rw [z]; exact hq.1))]
          exact h
        · exact h
    have hside : ∀ d, (bSide P mG k d b).1 x ≠ 0 := fun d => by
      induction d with
      | zero => exact h
      | succ d ih => exact hstep d _ ih
    unfold bRun
    split
    · exact mKeep t (k + 1) (hside 4)
    · exact h
theorem bMany_F {p : Nat → Bool} : ∀ {i x : Nat}, (bMany p i).1 x ≠ 0 ↔ x < i ∧ p x = true
  | 0, x => ⟨fun h => absurd rfl h, fun h => absurd h.1 (Nat.not_lt_zero _)⟩
  | i + 1, x => by
    have ih := bMany_F (p := p) (i := i) (x := x)
    by_cases hp : p i = true
    · rw [show bMany p (i + 1) = (updN (bMany p i).1 i 1, updN (bMany p i).2.1 (bMany p i).2.2 i, (bMany p i).2.2 + 1) from if_pos hp]
      show updN (bMany p i).1 i 1 x ≠ 0 ↔ _
      by_cases hx : x = i
      · subst hx
        rw [updN_s]
        exact ⟨fun _ => ⟨Nat.lt_succ_self _, hp⟩, fun _ => Nat.one_ne_zero⟩
      · rw [updN_n hx, ih]
        exact ⟨fun h => ⟨by omega, h.2⟩, fun h => ⟨by omega, h.2⟩⟩
    · rw [show bMany p (i + 1) = bMany p i from if_neg hp, ih]
      exact ⟨fun h => ⟨by omega, h.2⟩, fun h => ⟨Nat.lt_of_le_of_ne (Nat.le_of_lt_succ h.1) (fun z => hp (by rw [← z]; exact h.2)), h.2⟩⟩
theorem bMany_q4 {p : Nat → Bool} : ∀ {i x : Nat}, (bMany p i).1 x ≠ 0 → ∃ j, j < (bMany p i).2.2 ∧ (bMany p i).2.1 j = x
  | 0, x, h => absurd rfl h
  | i + 1, x, h => by
    by_cases hp : p i = true
    · rw [show bMany p (i + 1) = (updN (bMany p i).1 i 1, updN (bMany p i).2.1 (bMany p i).2.2 i, (bMany p i).2.2 + 1) from if_pos hp] at h ⊢
      by_cases hx : x = i
      · exact ⟨(bMany p i).2.2, Nat.lt_succ_self _, by rw [hx]; exact updN_s⟩
      · have h2 : (bMany p i).1 x ≠ 0 := by
          have h5 : updN (bMany p i).1 i 1 x ≠ 0 := h
          rwa [updN_n hx] at h5
        obtain ⟨j, hj, hjx⟩ := bMany_q4 h2
        exact ⟨j, Nat.lt_succ_of_lt hj, (updN_n (by omega)).trans hjx⟩
    · rw [show bMany p (i + 1) = bMany p i from if_neg hp] at h ⊢
      exact bMany_q4 h
/-- found from many cells: just what has a way from the shaft -/
theorem bAll_lay {N : Nat → Int32} {j K : Nat} (ho : N (328 + j) = nI 0) {x : Nat} (hx : x < 64) : (bAll N j K).1 x ≠ 0 ↔ ∃ k, lay (fun z => sFree N z (nI j) K) (fun z => sNext N z (nI j)) k x := by
  have hbeg : ∀ z, sBeg N j K z = (sNext N z (nI j) && sFree N z (nI j) K) := fun z => by unfold sBeg; rw [decide_eq_true ho, Bool.true_and]
  have hok := bMany_ok (p := sBeg N j K) 64 (Nat.le_refl _)
  have hs0 : mSnd (fun z => sFree N z (nI j) K) (fun z => sNext N z (nI j)) (bMany (sBeg N j K) 64) := fun z hz => by
    obtain ⟨h1, h2⟩ := bMany_F.mp hz
    rw [hbeg, Bool.and_eq_true] at h2
    exact ⟨h1, 1, Or.inr ⟨h2.2, Or.inl h2.1⟩⟩
  obtain ⟨h1, h2, h4⟩ := mRun (P := fun z => sFree N z (nI j) K) (S := fun z => sNext N z (nI j)) 65 0 rfl hok hs0 ⟨fun i hi => absurd hi (Nat.not_lt_zero _), fun z hz => bMany_q4 hz⟩
  have hok2 := bRun_ok (P := fun z => sFree N z (nI j) K) (g := mG) bG_1 65 0 hok
  refine ⟨fun h => (h1 x h).2, fun ⟨k, hk⟩ => ?_⟩
  have main : ∀ k x, x < 64 → lay (fun z => sFree N z (nI j) K) (fun z => sNext N z (nI j)) k x → (bAll N j K).1 x ≠ 0 := by
    intro k
    induction k with
    | zero => intro x _ h; exact h.elim
    | succ k ih =>
      intro x hx h
      rcases h with h | ⟨hP, hS | ⟨y, hy, hadj⟩⟩
      · exact ih x hx h
      · exact mKeep 65 0 (bMany_F.mpr ⟨hx, by rw [hbeg]; exact Bool.and_eq_true_iff.mpr ⟨hS, hP⟩⟩)
      · have hy64 := adj_lt hx hadj
        obtain ⟨i, hi, hiy⟩ := h4 y (ih y hy64 hy)
        obtain ⟨d, hd, hs⟩ := adj_sym hx hadj
        have h6 := hok2.n
        have hi2 : i < (bRun (fun z => sFree N z (nI j) K) mG 65 0 (bMany (sBeg N j K) 64)).2.2 := hi
        exact h2 i (by omega) hi2 d hd x (by rw [show (bRun (fun z => sFree N z (nI j) K) mG 65 0 (bMany (sBeg N j K) 64)).2.1 i = y from hiy]; exact hs) hP
  exact main k x hx hk
theorem sCount_eq {p q : Nat → Bool} : ∀ {m : Nat}, (∀ c, c < m → p c = q c) → sCount p m = sCount q m
  | 0, _ => rfl
  | m + 1, h => by
    unfold sCount
    rw [sCount_eq (fun c hc => h c (by omega)), h m (Nat.lt_succ_self m)]
/-- the component counts the cells that have a way; the reference what its search holds -/
theorem reached_eq {N : Nat → Int32} {j K : Nat} (ho : N (328 + j) = nI 0) : sCount (fun c => (sFirst N j c K).isSome) 64 = (bAll N j K).2.2 := by
  have hok : bOK (bAll N j K) := bRun_ok bG_1 65 0 (bMany_ok 64 (Nat.le_refl _))
  rw [← hok.2.1]
  refine sCount_eq (fun c hc => ?_)
  obtain ⟨h1, h2⟩ := way_lay (N := N) (j := j) (c := c) (K := K) hc ho
  cases e : sFirst N j c K with
  | none =>
    have : ¬ (bAll N j K).1 c ≠ 0 := fun z => by
      obtain ⟨k, hk⟩ := (bAll_lay ho hc).mp z
      exact h2 e k hk
    rw [decide_eq_false this]; rfl
  | some x =>
    rw [decide_eq_true ((bAll_lay ho hc).mpr ⟨_, (h1 x e).1⟩)]; rfl
theorem bMany_z {p : Nat → Bool} (h : ∀ i, p i = false) : ∀ i, bMany p i = bZero
  | 0 => rfl
  | i + 1 => (bMany_n (h i)).trans (bMany_z h i)
/-- a closed shaft reaches nothing, in both searches -/
theorem reached_closed {N : Nat → Int32} {j K : Nat} (ho : N (328 + j) ≠ nI 0) : (bAll N j K).2.2 = 0 ∧ ∀ c, sFirst N j c K = none := by
  constructor
  · unfold bAll
    rw [bMany_z (fun i => by unfold sBeg; rw [decide_eq_false ho, Bool.false_and]) 64, bRun_end (Nat.zero_le _)]
    rfl
  · intro c
    cases e : sFirst N j c K with
    | none => rfl
    | some x =>
      have h := sFirst_F e
      have hz : bFar N j c K = bZero := by
        unfold bFar
        rw [decide_eq_false ho, Bool.and_false, bOne_f rfl, bRun_end (Nat.zero_le _)]
      rw [hz] at h
      exact absurd h (Nat.lt_irrefl 0)
