/-! WAYS BY LAYERS are the search's -/
/-- cells that a shaft's start reaches in k layers -/
def lay (P S : Nat → Bool) : Nat → Nat → Prop
  | 0, _ => False
  | k + 1, x => lay P S k x ∨ (P x = true ∧ (S x = true ∨ ∃ y, lay P S k y ∧ adj x y))
theorem lay_up {P S : Nat → Bool} {x : Nat} : ∀ {j k : Nat}, j ≤ k → lay P S j x → lay P S k x
  | j, 0, h, hl => by
    have : j = 0 := by omega
    subst this
    exact hl
  | j, k + 1, h, hl => by
    by_cases hj : j = k + 1
    · subst hj; exact hl
    · exact Or.inl (lay_up (by omega) hl)
/-- a way goes one cell on at its end -/
theorem inW_tail {P : Nat → Bool} {y b : Nat} (hb : P b = true) (ha : adj y b) : ∀ {k a : Nat}, inW P y k a → inW P b (k + 1) a
  | 0, _, h => h.elim
  | k + 1, a, h => by
    rcases h with ⟨rfl, h⟩ | h | ⟨h, z, h2, h3⟩
    · exact Or.inr (Or.inr ⟨h, b, Or.inl ⟨rfl, hb⟩, ha⟩)
    · exact inW_up (inW_tail hb ha h)
    · exact Or.inr (Or.inr ⟨h, z, inW_tail hb ha h2, h3⟩)
theorem lay_inW {P S : Nat → Bool} : ∀ {k b : Nat}, b < 64 → lay P S k b → ∃ a, a < 64 ∧ S a = true ∧ inW P b k a
  | 0, _, _, h => h.elim
  | k + 1, b, hb, h => by
    rcases h with h | ⟨h, h2 | ⟨y, h2, h3⟩⟩
    · obtain ⟨a, h0, h4, h5⟩ := lay_inW hb h
      exact ⟨a, h0, h4, inW_up h5⟩
    · exact ⟨b, hb, h2, Or.inl ⟨rfl, h⟩⟩
    · obtain ⟨a, h0, h4, h5⟩ := lay_inW (adj_lt hb h3) h2
      exact ⟨a, h0, h4, inW_tail h (adj_sym hb h3) h5⟩
theorem inW_lay {P S : Nat → Bool} {b : Nat} : ∀ {k a j : Nat}, a < 64 → inW P b k a → lay P S (j + 1) a → lay P S (j + k) b
  | 0, _, _, _, h, _ => h.elim
  | k + 1, a, j, ha, h, hl => by
    rcases h with ⟨rfl, h⟩ | h | ⟨h, z, h2, h3⟩
    · exact lay_up (by omega) hl
    · exact lay_up (by omega) (inW_lay ha h hl)
    · have hz : lay P S (j + 1 + 1) z := Or.inr ⟨inW_P h2, Or.inr ⟨a, hl, adj_sym ha h3⟩⟩
      have := inW_lay (j := j + 1) (adj_lt ha h3) h2 hz
      exact lay_up (by omega) this
theorem inW_lay0 {P S : Nat → Bool} {b a k : Nat} (ha : a < 64) (hS : S a = true) (h : inW P b k a) : lay P S k b := by
  have := inW_lay (S := S) (j := 0) ha h (Or.inr ⟨inW_P h, Or.inl hS⟩)
  exact lay_up (by omega) this
/-- the first of a way is a nearest one -/
theorem sFirK_min {N : Nat → Int32} {F : Nat → Nat} {s : Int32} : ∀ {k x : Nat}, x < k → 0 < F x → sNext N x s = true → ∃ y, sFirK N F s k = some y ∧ F y ≤ F x
  | 0, _, h, _, _ => absurd h (Nat.not_lt_zero _)
  | k + 1, x, h, h1, h2 => by
    unfold sFirK
    by_cases hx : x = k
    · subst hx
      cases e : sFirK N F s x with
      | none => exact ⟨x, by rw [if_pos ⟨⟨h1, h2⟩, Or.inl rfl⟩], Nat.le_refl _⟩
      | some y =>
        by_cases hy : F x < F y
        · exact ⟨x, by rw [if_pos ⟨⟨h1, h2⟩, Or.inr hy⟩], Nat.le_refl _⟩
        · exact ⟨y, by rw [if_neg (fun q => q.2.elim (fun z => by cases z) hy)], by omega⟩
    · obtain ⟨y, h3, h4⟩ := sFirK_min (k := k) (by omega) h1 h2
      rw [h3]
      by_cases hq : (0 < F k ∧ sNext N k s = true) ∧ (some y = none ∨ F k < F ((some y).getD 0))
      · refine ⟨k, by rw [if_pos hq], ?_⟩
        have : F k < F y := hq.2.elim (fun z => by cases z) id
        omega
      · exact ⟨y, by rw [if_neg hq], h4⟩
theorem sFirK_next {N : Nat → Int32} {F : Nat → Nat} {s : Int32} : ∀ {k x : Nat}, sFirK N F s k = some x → sNext N x s = true
  | 0, _, h => by cases h
  | k + 1, x, h => by
    unfold sFirK at h
    split at h
    · rename_i q; cases h; exact q.1.2
    · exact sFirK_next h
/-- for an open shaft: layers reach a cell with the search's number, and not before; and never, if nothing is found -/
theorem way_lay {N : Nat → Int32} {j c K : Nat} (hc : c < 64) (ho : N (328 + j) = nI 0) : (∀ x, sFirst N j c K = some x → lay (fun z => sFree N z (nI j) K) (fun z => sNext N z (nI j)) ((bFar N j c K).1 x) c ∧ ∀ k, k < (bFar N j c K).1 x → ¬ lay (fun z => sFree N z (nI j) K) (fun z => sNext N z (nI j)) k c) ∧
    (sFirst N j c K = none → ∀ k, ¬ lay (fun z => sFree N z (nI j) K) (fun z => sNext N z (nI j)) k c) := by
  have hok : (sFree N c (nI j) K && decide (N (328 + j) = nI 0)) = sFree N c (nI j) K := by rw [decide_eq_true ho, Bool.and_true]
  have hsnd : bSnd (fun z => sFree N z (nI j) K) c (bFar N j c K) := bRun_snd 65 0 (bOK_one hc _) (bOne_snd hc (fun q => by rw [hok] at q; exact q))
  have hcmp : ∀ {k x : Nat}, x < 64 → inW (fun z => sFree N z (nI j) K) c k x → (bFar N j c K).1 x ≠ 0 ∧ (bFar N j c K).1 x ≤ k := fun hx h => bRun_cmp hc (fun q => by rw [hok]; exact q) hx h
  have hback : ∀ k, lay (fun z => sFree N z (nI j) K) (fun z => sNext N z (nI j)) k c → ∃ y, sFirst N j c K = some y ∧ (bFar N j c K).1 y ≤ k := fun k hl => by
    obtain ⟨a, ha, h1, h2⟩ := lay_inW hc hl
    obtain ⟨h3, h4⟩ := hcmp ha h2
    obtain ⟨y, h5, h6⟩ := sFirK_min (N := N) (F := (bFar N j c K).1) (s := nI j) ha (Nat.pos_of_ne_zero h3) h1
    exact ⟨y, h5, by omega⟩
  refine ⟨fun x hx => ⟨?_, fun k hk hl => ?_⟩, fun hn k hl => ?_⟩
  · have hF := sFirst_F hx
    obtain ⟨h1, h2⟩ := hsnd x (by omega)
    exact inW_lay0 h1 (sFirK_next hx) h2
  · obtain ⟨y, h1, h2⟩ := hback k hl
    rw [hx] at h1
    cases h1
    omega
  · obtain ⟨y, h1, h2⟩ := hback k hl
    rw [hn] at h1
    cases h1
