/-! THE SEARCH FINDS ALL -/
def bDone (P : Nat → Bool) (b : Bf) (i d : Nat) : Prop := ∀ e, e < d → ∀ y, sBsd (b.2.1 i) e = some y → P y = true → b.1 y ≠ 0 ∧ b.1 y ≤ b.1 (b.2.1 i) + 1
/-- all before k are done; the queue goes up; it holds all that is found -/
def bB (P : Nat → Bool) (k : Nat) (b : Bf) : Prop := (∀ i, i < k → i < b.2.2 → bDone P b i 4) ∧ (∀ i j, i ≤ j → j < b.2.2 → b.1 (b.2.1 i) ≤ b.1 (b.2.1 j)) ∧ (∀ x, b.1 x ≠ 0 → ∃ i, i < b.2.2 ∧ b.2.1 i = x)
def bC (k : Nat) (b : Bf) : Prop := ∀ j, j < b.2.2 → b.1 (b.2.1 j) ≤ b.1 (b.2.1 k) + 1
theorem bStep_all {P : Nat → Bool} {k d : Nat} {b : Bf} (hok : bOK b) (hk : k < b.2.2) (h : bB P k b ∧ bDone P b k d ∧ bC k b) : bB P k (bStep P Nat.succ k d b) ∧ bDone P (bStep P Nat.succ k d b) k (d + 1) ∧ bC k (bStep P Nat.succ k d b) := by
  obtain ⟨⟨h1, h2, h4⟩, h1', h3⟩ := h
  unfold bStep
  split
  · rename_i hx
    refine ⟨⟨h1, h2, h4⟩, fun e he y hy hP => ?_, h3⟩
    by_cases hed : e = d
    · subst hed; rw [hx] at hy; cases hy
    · exact h1' e (by omega) y hy hP
  · rename_i x hx
    split
    · rename_i hq
      have hQ : ∀ i, i < b.2.2 → updN b.2.1 b.2.2 x i = b.2.1 i := fun i hi => updN_n (by omega)
      have hQx : ∀ i, i < b.2.2 → b.2.1 i ≠ x := fun i hi z => (hok.1 i hi).2 (by rw [z]; exact hq.1)
      have hF : ∀ y, y ≠ x → updN b.1 x (Nat.succ (b.1 (b.2.1 k))) y = b.1 y := fun y hy => updN_n hy
      have hFQ : ∀ i, i < b.2.2 → updN b.1 x (Nat.succ (b.1 (b.2.1 k))) (updN b.2.1 b.2.2 x i) = b.1 (b.2.1 i) := fun i hi => by rw [hQ i hi, hF _ (hQx i hi)]
      have hFx : updN b.1 x (Nat.succ (b.1 (b.2.1 k))) x = b.1 (b.2.1 k) + 1 := updN_s
      have hold : ∀ (i e y : Nat), i < b.2.2 → (b.1 y ≠ 0 ∧ b.1 y ≤ b.1 (b.2.1 i) + 1) → updN b.1 x (Nat.succ (b.1 (b.2.1 k))) y ≠ 0 ∧ updN b.1 x (Nat.succ (b.1 (b.2.1 k))) y ≤ updN b.1 x (Nat.succ (b.1 (b.2.1 k))) (updN b.2.1 b.2.2 x i) + 1 := fun i e y hi hy => by
        have hyx : y ≠ x := fun z => hy.1 (by rw [z]; exact hq.1)
        rw [hF y hyx, hFQ i hi]
        exact hy
      refine ⟨⟨fun i hi hin => ?_, fun i j hij hj => ?_, fun z hz => ?_⟩, fun e he y hy hP => ?_, fun j hj => ?_⟩
      · intro e he y hy hP
        have hi2 : i < b.2.2 := by omega
        have hy2 : sBsd (b.2.1 i) e = some y := by
          have : sBsd (updN b.2.1 b.2.2 x i) e = some y := hy
          rwa [hQ i hi2] at this
        exact hold i e y hi2 (h1 i hi hi2 e he y hy2 hP)
      · show updN b.1 x (Nat.succ (b.1 (b.2.1 k))) (updN b.2.1 b.2.2 x i) ≤ updN b.1 x (Nat.succ (b.1 (b.2.1 k))) (updN b.2.1 b.2.2 x j)
        have hj2 : j < b.2.2 + 1 := hj
        by_cases hjn : j = b.2.2
        · subst hjn
          rw [show updN b.2.1 b.2.2 x b.2.2 = x from updN_s, hFx]
          by_cases hin : i = b.2.2
          · subst hin; rw [show updN b.2.1 b.2.2 x b.2.2 = x from updN_s, hFx]; exact Nat.le_refl _
          · rw [hFQ i (by omega)]; exact h3 i (by omega)
        · rw [hFQ i (by omega), hFQ j (by omega)]
          exact h2 i j hij (by omega)
      · by_cases hzx : z = x
        · exact ⟨b.2.2, Nat.lt_succ_self _, by rw [hzx]; exact updN_s⟩
        · have hz2 : b.1 z ≠ 0 := by
            have h5 : updN b.1 x (Nat.succ (b.1 (b.2.1 k))) z ≠ 0 := hz
            rwa [hF z hzx] at h5
          obtain ⟨i, hi, hiz⟩ := h4 z hz2
          exact ⟨i, Nat.lt_succ_of_lt hi, (hQ i hi).trans hiz⟩
      · have hy2 : sBsd (b.2.1 k) e = some y := by
          have : sBsd (updN b.2.1 b.2.2 x k) e = some y := hy
          rwa [hQ k hk] at this
        by_cases hed : e = d
        · subst hed
          rw [hx] at hy2
          cases hy2
          show updN b.1 x (Nat.succ (b.1 (b.2.1 k))) x ≠ 0 ∧ updN b.1 x (Nat.succ (b.1 (b.2.1 k))) x ≤ updN b.1 x (Nat.succ (b.1 (b.2.1 k))) (updN b.2.1 b.2.2 x k) + 1
          rw [hFx, hFQ k hk]
          exact ⟨Nat.succ_ne_zero _, Nat.le_refl _⟩
        · exact hold k e y hk (h1' e (by omega) y hy2 hP)
      · show updN b.1 x (Nat.succ (b.1 (b.2.1 k))) (updN b.2.1 b.2.2 x j) ≤ updN b.1 x (Nat.succ (b.1 (b.2.1 k))) (updN b.2.1 b.2.2 x k) + 1
        have hj2 : j < b.2.2 + 1 := hj
        rw [hFQ k hk]
        by_cases hjn : j = b.2.2
        · subst hjn
          rw [show updN b.2.1 b.2.2 x b.2.2 = x from updN_s, hFx]
          exact Nat.le_refl _
        · rw [hFQ j (by omega)]
          exact h3 j (by omega)
    · rename_i hq
      refine ⟨⟨h1, h2, h4⟩, fun e he y hy hP => ?_, h3⟩
      by_cases hed : e = d
      · subst hed
        rw [hx] at hy
        cases hy
        have hFx : b.1 x ≠ 0 := fun z => hq ⟨z, hP⟩
        obtain ⟨i, hi, hix⟩ := h4 x hFx
        exact ⟨hFx, by rw [← hix]; exact h3 i hi⟩
      · exact h1' e (by omega) y hy hP
theorem bSide_all {P : Nat → Bool} {k : Nat} {b : Bf} (hok : bOK b) (hk : k < b.2.2) (h : bB P k b ∧ bC k b) : ∀ d, bB P k (bSide P Nat.succ k d b) ∧ bDone P (bSide P Nat.succ k d b) k d ∧ bC k (bSide P Nat.succ k d b)
  | 0 => ⟨h.1, fun _ he => absurd he (Nat.not_lt_zero _), h.2⟩
  | d + 1 => by
    obtain ⟨h1, h2, -⟩ := bSide_ok (P := P) bG_s hok hk d
    exact bStep_all h1 (by omega) (bSide_all hok hk h d)
theorem bRun_all {P : Nat → Bool} : ∀ (t k : Nat) {b : Bf}, t + k = 65 → bOK b → bB P k b → (k < b.2.2 → bC k b) → bB P 65 (bRun P Nat.succ t k b)
  | 0, k, b, ht, hok, h, _ => by
    have : k = 65 := by omega
    subst this
    exact h
  | t + 1, k, b, ht, hok, h, hc => by
    unfold bRun
    split
    · rename_i hk
      obtain ⟨e1, e2, e3⟩ := bSide_ok (P := P) bG_s hok hk 4
      obtain ⟨⟨h1, h2, h4⟩, h1', h3⟩ := bSide_all hok hk ⟨h, hc hk⟩ 4
      refine bRun_all t (k + 1) (by omega) e1 ⟨fun i hi hin => ?_, h2, h4⟩ (fun hk1 j hj => Nat.le_trans (h3 j hj) (Nat.succ_le_succ (h2 k (k + 1) (Nat.le_succ k) hk1)))
      by_cases hik : i = k
      · subst hik; exact h1'
      · exact h1 i (by omega) hin
    · rename_i hk
      exact ⟨fun i hi hin => h.1 i (by omega) hin, h.2⟩
theorem bOne_all {P : Nat → Bool} {c : Nat} {ok : Bool} : bB P 0 (bOne c ok) ∧ (0 < (bOne c ok).2.2 → bC 0 (bOne c ok)) := by
  unfold bOne
  by_cases ho : ok = true
  · rw [if_pos ho]
    refine ⟨⟨fun i hi => absurd hi (Nat.not_lt_zero _), fun i j hij hj => ?_, fun x hx => ?_⟩, fun _ j hj => ?_⟩
    · have hj2 : j < 1 := hj
      rw [show j = 0 by omega, show i = 0 by omega]; exact Nat.le_refl _
    · by_cases hxc : x = c
      · exact ⟨0, Nat.lt_succ_self 0, by rw [hxc]; exact (updN_s : updN (fun _ => 0) 0 c 0 = c)⟩
      · exact absurd (show updN (fun _ => 0) c 1 x = 0 from updN_n hxc) hx
    · have hj2 : j < 1 := hj
      rw [show j = 0 by omega]; exact Nat.le_succ _
  · rw [if_neg ho]
    exact ⟨⟨fun i hi => absurd hi (Nat.not_lt_zero _), fun i j _ hj => absurd hj (Nat.not_lt_zero _), fun x hx => absurd rfl hx⟩, fun hk => absurd hk (Nat.not_lt_zero _)⟩
/-- what is found stays -/
theorem bStep_keep {P : Nat → Bool} {k d x : Nat} {b : Bf} (hx : b.1 x ≠ 0) : (bStep P Nat.succ k d b).1 x = b.1 x := by
  unfold bStep
  split
  · rfl
  · rename_i y hy
    split
    · rename_i hq
      exact updN_n (fun z => hx (by rw [z]; exact hq.1))
    · rfl
theorem bSide_keep {P : Nat → Bool} {k x : Nat} {b : Bf} (hx : b.1 x ≠ 0) : ∀ d, (bSide P Nat.succ k d b).1 x = b.1 x
  | 0 => rfl
  | d + 1 => by
    have h := bSide_keep (P := P) (k := k) hx d
    unfold bSide
    rw [bStep_keep (by rw [h]; exact hx), h]
theorem bRun_keep {P : Nat → Bool} : ∀ (t k : Nat) {b : Bf}, bOK b → ∀ {x : Nat}, b.1 x ≠ 0 → (bRun P Nat.succ t k b).1 x = b.1 x
  | 0, _, _, _, _, _ => rfl
  | t + 1, k, b, hok, x, hx => by
    unfold bRun
    split
    · have h := bSide_keep (P := P) (k := k) hx 4
      rw [bRun_keep t (k + 1) (bSide_ok bG_s hok (by assumption) 4).1 (by rw [h]; exact hx), h]
    · rfl
/-- what is on a way to c is found, and not too far -/
theorem bRun_cmp {P : Nat → Bool} {c : Nat} {ok : Bool} (hc : c < 64) (hP : P c = true → ok = true) : ∀ {k x : Nat}, x < 64 → inW P c k x → (bRun P Nat.succ 65 0 (bOne c ok)).1 x ≠ 0 ∧ (bRun P Nat.succ 65 0 (bOne c ok)).1 x ≤ k
  | 0, _, _, h => h.elim
  | k + 1, x, hx, h => by
    have hok := bRun_ok (P := P) bG_s 65 0 (bOK_one hc ok)
    obtain ⟨h1, h2, h4⟩ := bRun_all (P := P) 65 0 rfl (bOK_one hc ok) (bOne_all (P := P)).1 (bOne_all (P := P)).2
    rcases h with ⟨rfl, h⟩ | h | ⟨hPx, y, h, hadj⟩
    · have hone : (bOne x ok).1 x = 1 := by
        rw [bOne_t (hP h)]
        exact (updN_s : updN (fun _ => 0) x 1 x = 1)
      have hk := bRun_keep (P := P) 65 0 (bOK_one hc ok) (x := x) (by rw [hone]; exact Nat.one_ne_zero)
      rw [hk, hone]
      exact ⟨Nat.one_ne_zero, by omega⟩
    · have := bRun_cmp hc hP hx h
      exact ⟨this.1, by omega⟩
    · have hy : y < 64 := adj_lt hx hadj
      obtain ⟨g1, g2⟩ := bRun_cmp hc hP hy h
      obtain ⟨i, hi, hiy⟩ := h4 y g1
      obtain ⟨d, hd, hs⟩ := adj_sym hx hadj
      have h6 := hok.n
      obtain ⟨q1, q2⟩ := h1 i (by omega) hi d hd x (by rw [hiy]; exact hs) hPx
      rw [hiy] at q2
      exact ⟨q1, by omega⟩
