/-! PURE LAWS: spans, and what the search finds -/
theorem sSpan_max (N : Nat → Int32) (c : Nat) : max (sSpan N c true) (sSpan N c false) = if sBare N (some c) = true then sWide N c else 0 := by
  unfold sSpan sWide
  by_cases h : sBare N (some c) = true
  · rw [if_pos h, if_pos h, if_pos h]
  · rw [if_neg h, if_neg h, if_neg h]; rfl
/-- the component's longest, cell by cell -/
def sLongC (N : Nat → Int32) : Nat → Nat
  | 0 => 0
  | k + 1 => max (sLongC N k) (max (sSpan N k true) (sSpan N k false))
theorem sLongC_eq (N : Nat → Int32) : ∀ k, sLongC N k = sLongK N k
  | 0 => rfl
  | k + 1 => by
    unfold sLongC sLongK
    rw [sLongC_eq N k, sSpan_max]
def adj (x y : Nat) : Prop := ∃ d, d < 4 ∧ sBsd x d = some y
theorem adj_sym {x y : Nat} (hx : x < 64) (h : adj x y) : adj y x := by
  obtain ⟨d, h1, h2⟩ := h
  exact ⟨3 - d, by omega, sBsd_sym hx h1 h2⟩
theorem adj_lt {x y : Nat} (hx : x < 64) (h : adj x y) : y < 64 := by
  obtain ⟨d, h1, h2⟩ := h
  exact sBsd_lt hx h2
/-- cells from which a way of at most k cells goes to c -/
def inW (P : Nat → Bool) (c : Nat) : Nat → Nat → Prop
  | 0, _ => False
  | k + 1, x => (x = c ∧ P c = true) ∨ inW P c k x ∨ (P x = true ∧ ∃ y, inW P c k y ∧ adj x y)
theorem inW_up {P : Nat → Bool} {c k x : Nat} (h : inW P c k x) : inW P c (k + 1) x := Or.inr (Or.inl h)
theorem inW_P {P : Nat → Bool} {c : Nat} : ∀ {k x : Nat}, inW P c k x → P x = true
  | 0, _, h => h.elim
  | k + 1, x, h => by
    rcases h with ⟨rfl, h⟩ | h | ⟨h, -⟩
    · exact h
    · exact inW_P h
    · exact h
/-- what the search has found so far is right -/
def bSnd (P : Nat → Bool) (c : Nat) (b : Bf) : Prop := ∀ x, b.1 x ≠ 0 → x < 64 ∧ inW P c (b.1 x) x
theorem bStep_snd {P : Nat → Bool} {c k d : Nat} (hd : d < 4) {b : Bf} (hok : bOK b) (hk : k < b.2.2) (h : bSnd P c b) : bSnd P c (bStep P Nat.succ k d b) := by
  unfold bStep
  split
  · exact h
  · rename_i x hx
    split
    · rename_i hq
      obtain ⟨c1, c2⟩ := hok.1 k hk
      intro z hz
      by_cases hzx : z = x
      · subst hzx
        have hz64 := sBsd_lt c1 hx
        refine ⟨hz64, ?_⟩
        show inW P c (updN b.1 z (Nat.succ (b.1 (b.2.1 k))) z) z
        rw [updN_s]
        exact Or.inr (Or.inr ⟨hq.2, b.2.1 k, (h _ c2).2, 3 - d, by omega, sBsd_sym c1 hd hx⟩)
      · have e : updN b.1 x (Nat.succ (b.1 (b.2.1 k))) z = b.1 z := updN_n hzx
        have hz2 : b.1 z ≠ 0 := by
          have h4 : updN b.1 x (Nat.succ (b.1 (b.2.1 k))) z ≠ 0 := hz
          rwa [e] at h4
        obtain ⟨k1, k2⟩ := h z hz2
        refine ⟨k1, ?_⟩
        show inW P c (updN b.1 x (Nat.succ (b.1 (b.2.1 k))) z) z
        rw [e]
        exact k2
    · exact h
theorem bSide_snd {P : Nat → Bool} {c k : Nat} {b : Bf} (hok : bOK b) (hk : k < b.2.2) (h : bSnd P c b) : ∀ d, d ≤ 4 → bSnd P c (bSide P Nat.succ k d b)
  | 0, _ => h
  | d + 1, hd => by
    obtain ⟨h1, h2, -⟩ := bSide_ok (P := P) bG_s hok hk d
    exact bStep_snd (by omega) h1 (by omega) (bSide_snd hok hk h d (by omega))
theorem bRun_snd {P : Nat → Bool} {c : Nat} : ∀ (t k : Nat) {b : Bf}, bOK b → bSnd P c b → bSnd P c (bRun P Nat.succ t k b)
  | 0, _, _, _, h => h
  | t + 1, k, b, hok, h => by
    unfold bRun
    split
    · exact bRun_snd t (k + 1) (bSide_ok bG_s hok (by assumption) 4).1 (bSide_snd hok (by assumption) h 4 (Nat.le_refl _))
    · exact h
theorem bOne_snd {P : Nat → Bool} {c : Nat} {ok : Bool} (hc : c < 64) (hP : ok = true → P c = true) : bSnd P c (bOne c ok) := by
  intro x hx
  unfold bOne at hx ⊢
  by_cases ho : ok = true
  · rw [if_pos ho] at hx ⊢
    by_cases hxc : x = c
    · subst hxc
      refine ⟨hc, ?_⟩
      show inW P x (updN (fun _ => 0) x 1 x) x
      rw [updN_s]
      exact Or.inl ⟨rfl, hP ho⟩
    · exact absurd (show updN (fun _ => 0) c 1 x = 0 from updN_n hxc) hx
  · rw [if_neg ho] at hx
    exact absurd rfl hx
