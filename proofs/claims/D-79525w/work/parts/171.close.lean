/-! CLOSING: the cells filled, the props stored in one go -/
theorem so_def (N : Nat → Int32) (c : Nat) (s : Int32) : sOpenOf N (some c) s = (decide (N c = nI 1) && decide (N (192 + c) = s)) := rfl
theorem sb_def (N : Nat → Int32) (c : Nat) : sBare N (some c) = (decide (N c = nI 1) && decide (N (256 + c) = nI 0)) := rfl
def cF (N : Nat → Int32) (s : Int32) (k : Nat) : Nat → Int32 := fun q => if q < k ∧ sOpenOf N (some q) s = true then nI 2 else if 256 ≤ q ∧ q < 256 + k ∧ sOpenOf N (some (q - 256)) s = true then nI 0 else N q
theorem cF_z (N : Nat → Int32) (s : Int32) : cF N s 0 = N := by
  funext q
  unfold cF
  rw [if_neg (fun z => Nat.not_lt_zero _ z.1), if_neg (fun z => absurd z.2.1 (by omega))]
theorem cF_t {N : Nat → Int32} {s : Int32} {k : Nat} (hk : k < 64) (h : sOpenOf N (some k) s = true) : upd (upd (cF N s k) k (nI 2)) (256 + k) (nI 0) = cF N s (k + 1) := by
  funext q
  by_cases h1 : q = 256 + k
  · rw [upd_eq' h1]
    unfold cF
    rw [if_neg (fun z => absurd z.1 (by omega)), if_pos ⟨by omega, by omega, by rw [show q - 256 = k by omega]; exact h⟩]
  · rw [upd_ne' h1]
    by_cases h2 : q = k
    · rw [upd_eq' h2]
      unfold cF
      rw [if_pos ⟨by omega, by rw [h2]; exact h⟩]
    · rw [upd_ne' h2]
      unfold cF
      have e1 : (q < k ∧ sOpenOf N (some q) s = true) = (q < k + 1 ∧ sOpenOf N (some q) s = true) := by
        apply propext; exact ⟨fun z => ⟨by omega, z.2⟩, fun z => ⟨by omega, z.2⟩⟩
      have e2 : (256 ≤ q ∧ q < 256 + k ∧ sOpenOf N (some (q - 256)) s = true) = (256 ≤ q ∧ q < 256 + (k + 1) ∧ sOpenOf N (some (q - 256)) s = true) := by
        apply propext; exact ⟨fun z => ⟨z.1, by omega, z.2.2⟩, fun z => ⟨z.1, by omega, z.2.2⟩⟩
      simp only [e1, e2]
theorem cF_f {N : Nat → Int32} {s : Int32} {k : Nat} (h : sOpenOf N (some k) s = false) : cF N s (k + 1) = cF N s k := by
  funext q
  unfold cF
  have e1 : (q < k + 1 ∧ sOpenOf N (some q) s = true) = (q < k ∧ sOpenOf N (some q) s = true) := by
    apply propext
    refine ⟨fun z => ⟨?_, z.2⟩, fun z => ⟨by omega, z.2⟩⟩
    by_cases e : q = k
    · rw [e, h] at z; exact absurd z.2 (by decide)
    · omega
  have e2 : (256 ≤ q ∧ q < 256 + (k + 1) ∧ sOpenOf N (some (q - 256)) s = true) = (256 ≤ q ∧ q < 256 + k ∧ sOpenOf N (some (q - 256)) s = true) := by
    apply propext
    refine ⟨fun z => ⟨z.1, ?_, z.2.2⟩, fun z => ⟨z.1, by omega, z.2.2⟩⟩
    by_cases e : q - 256 = k
    · rw [e, h] at z; exact absurd z.2.2 (by decide)
    · omega
  simp only [e1, e2]
theorem cF_o {N : Nat → Int32} {s : Int32} {k q : Nat} (hk : k ≤ 64) (hq : (64 ≤ q ∧ q < 256) ∨ 320 ≤ q) : cF N s k q = N q := by
  unfold cF
  rw [if_neg (fun z => absurd z.1 (by omega)), if_neg (fun z => absurd z.2.1 (by omega))]
theorem cF_hi {N : Nat → Int32} {s : Int32} {k c : Nat} (hk : k ≤ c) (hc : c < 64) : cF N s k c = N c ∧ cF N s k (256 + c) = N (256 + c) := by
  unfold cF
  refine ⟨?_, ?_⟩
  · rw [if_neg (fun z => absurd z.1 (by omega)), if_neg (fun z => absurd z.1 (by omega))]
  · rw [if_neg (fun z => absurd z.1 (by omega)), if_neg (fun z => absurd z.2.1 (by omega))]
theorem cF_open {N : Nat → Int32} {s s' : Int32} {k c : Nat} (hk : k ≤ c) (hc : c < 64) : sOpenOf (cF N s k) (some c) s' = sOpenOf N (some c) s' := by
  rw [so_def, so_def, (cF_hi hk hc).1, cF_o (by omega) (by omega)]
/-- which rows fill alike -/
theorem cF_cong {N M : Nat → Int32} {s : Int32} {k q : Nat} (h : ∀ c, c < 256 → M c = N c) (hk : k ≤ 64) (hq : M q = N q) : cF M s k q = cF N s k q := by
  have ho : ∀ c, c < 64 → sOpenOf M (some c) s = sOpenOf N (some c) s := fun c hc => by
    rw [so_def, so_def, h c (by omega), h (192 + c) (by omega)]
  unfold cF
  by_cases h1 : q < 64
  · rw [ho q h1]
    have e : ∀ p : Prop, (256 ≤ q ∧ p) = False := fun p => by apply propext; exact ⟨fun z => absurd z.1 (by omega), fun z => z.elim⟩
    simp only [e, hq]
  · have e : ∀ p : Prop, (q < k ∧ p) = False := fun p => by apply propext; exact ⟨fun z => absurd z.1 (by omega), fun z => z.elim⟩
    simp only [e, if_false]
    by_cases h2 : 256 ≤ q ∧ q < 256 + k
    · rw [ho (q - 256) (by omega), hq]
    · rw [if_neg (fun z => h2 ⟨z.1, z.2.1⟩), if_neg (fun z => h2 ⟨z.1, z.2.1⟩), hq]
/-- the props that come back out of the first k cells -/
def cB (N : Nat → Int32) (s : Int32) (k : Nat) : Nat := sCount (fun c => sOpenOf N (some c) s && !sBare N (some c)) k
theorem cB_le (N : Nat → Int32) (s : Int32) (k : Nat) : cB N s k ≤ k := sCount_le _ k
theorem cB_1 (N : Nat → Int32) (s : Int32) (k : Nat) : cB N s (k + 1) = cB N s k + (if (sOpenOf N (some k) s && !sBare N (some k)) = true then 1 else 0) := rfl
theorem sOpenOf_1 {N : Nat → Int32} {c : Nat} {s : Int32} (h : sOpenOf N (some c) s = true) : N c = nI 1 ∧ N (192 + c) = s := by
  unfold sOpenOf at h
  rw [Bool.and_eq_true, decide_eq_true_eq, decide_eq_true_eq] at h
  exact h
theorem fill_law {N : Nat → Int32} {s : Int32} {p : Nat} (hp : N 352 = nI p) (hp9 : p ≤ 99) (hb : ∀ c, c < 64 → ∃ b : Bool, N (256 + c) = bI b) : ∀ k, k ≤ 64 → (∀ q, q ≠ 352 → sFillK N s k q = cF N s k q) ∧ sFillK N s k 352 = nI (min 99 (p + cB N s k))
  | 0, _ => ⟨fun q _ => by rw [cF_z]; rfl, by show N 352 = _; rw [hp, show cB N s 0 = 0 from rfl, Nat.add_zero, Nat.min_eq_right hp9]⟩
  | k + 1, hk => by
    obtain ⟨h1, h2⟩ := fill_law (s := s) hp hp9 hb k (by omega)
    have ho : sOpenOf (sFillK N s k) (some k) s = sOpenOf N (some k) s := by
      rw [so_def, so_def, h1 k (by omega), h1 (192 + k) (by omega), (cF_hi (Nat.le_refl k) (by omega)).1, cF_o (by omega) (by omega)]
    have hle := cB_le N s k
    cases e : sOpenOf N (some k) s with
    | false =>
      rw [sFillK_f (ho.trans e), cF_f e, cB_1, e]
      exact ⟨h1, h2⟩
    | true =>
      rw [sFillK_t (ho.trans e), ← cF_t (by omega) e, cB_1, e]
      obtain ⟨b, hbk⟩ := hb k (by omega)
      have hX : upd (sFillK N s k) k (nI 2) (256 + k) = nI (if b then 1 else 0) := by
        rw [upd_ne' (by omega), h1 (256 + k) (by omega), (cF_hi (Nat.le_refl k) (by omega)).2, hbk]
        cases b <;> rfl
      have hbare : sBare N (some k) = !b := sb1 (sOpenOf_1 e).1 hbk
      rw [hX, hbare]
      refine ⟨fun q hq => ?_, ?_⟩
      · by_cases q1 : q = 256 + k
        · rw [upd_eq' q1, upd_eq' q1]
        · rw [upd_ne' q1, upd_ne' q1, sAddP_ne hq]
          by_cases q2 : q = k
          · rw [upd_eq' q2, upd_eq' q2]
          · rw [upd_ne' q2, upd_ne' q2]; exact h1 q hq
      · rw [upd_ne' (by omega), sAddP_352 (p := min 99 (p + cB N s k)) (by rw [upd_ne' (by omega)]; exact h2) (by omega) (by split <;> omega)]
        cases b
        · exact congrArg nI (show min 99 (min 99 (p + cB N s k) + 0) = min 99 (p + (cB N s k + 0)) by omega)
        · exact congrArg nI (show min 99 (min 99 (p + cB N s k) + 1) = min 99 (p + (cB N s k + 1)) by omega)
/-- the row of a closed shaft against the one that the component makes -/
def cRow (N : Nat → Int32) (j : Nat) : Nat → Int32 := sAddP (cF (upd N 353 (N 353 - nI (sOpens N (nI j)))) (nI j) 64) (nI (cB N (nI j) 64))
theorem close_row {N : Nat → Int32} {j p : Nat} (hj : j < 8) (hp : N 352 = nI p) (hp9 : p ≤ 99) (hb : ∀ c, c < 64 → ∃ b : Bool, N (256 + c) = bI b) {q : Nat} (hq : q ≠ 328 + j) : sCloseRow N j q = cRow N j q := by
  have hA : ∀ q, q ≠ 328 + j → q ≠ 353 → upd (upd N (328 + j) (nI 1)) 353 (upd N (328 + j) (nI 1) 353 - nI (sOpens N (nI j))) q = N q := fun q h1 h2 => by rw [upd_ne' h2, upd_ne' h1]
  have hbA : ∀ c, c < 64 → ∃ b : Bool, upd (upd N (328 + j) (nI 1)) 353 (upd N (328 + j) (nI 1) 353 - nI (sOpens N (nI j))) (256 + c) = bI b := fun c hc => by
    rw [hA _ (by omega) (by omega)]; exact hb c hc
  obtain ⟨h1, h2⟩ := fill_law (s := nI j) ((hA 352 (by omega) (by omega)).trans hp) hp9 hbA 64 (Nat.le_refl _)
  have hcb : cB (upd (upd N (328 + j) (nI 1)) 353 (upd N (328 + j) (nI 1) 353 - nI (sOpens N (nI j)))) (nI j) 64 = cB N (nI j) 64 := by
    have : ∀ k, k ≤ 64 → cB (upd (upd N (328 + j) (nI 1)) 353 (upd N (328 + j) (nI 1) 353 - nI (sOpens N (nI j)))) (nI j) k = cB N (nI j) k := by
      intro k
      induction k with
      | zero => intro _; rfl
      | succ k ih =>
        intro hk
        rw [cB_1, cB_1, ih (by omega)]
        rw [so_def, so_def, sb_def, sb_def, hA k (by omega) (by omega), hA (192 + k) (by omega) (by omega), hA (256 + k) (by omega) (by omega)]
    exact this 64 (Nat.le_refl _)
  have hm : ∀ c, c < 256 → upd (upd N (328 + j) (nI 1)) 353 (upd N (328 + j) (nI 1) 353 - nI (sOpens N (nI j))) c = upd N 353 (N 353 - nI (sOpens N (nI j))) c := fun c hc => by
    rw [hA c (by omega) (by omega), upd_ne' (by omega)]
  have hle := cB_le N (nI j) 64
  show sFillK (upd (upd N (328 + j) (nI 1)) 353 (upd N (328 + j) (nI 1) 353 - nI (sOpens N (nI j)))) (nI j) 64 q = _
  unfold cRow
  by_cases q1 : q = 352
  · rw [q1, h2, hcb, sAddP_352 (p := p) (by rw [cF_o (by omega) (by omega), upd_ne' (by omega)]; exact hp) hp9 (by omega)]
  · rw [h1 q q1, sAddP_ne q1]
    refine cF_cong hm (Nat.le_refl _) ?_
    by_cases q2 : q = 353
    · rw [upd_eq' q2, upd_eq' q2, upd_ne' (by omega)]
    · rw [upd_ne' q2, upd_ne' q2, upd_ne' hq]
theorem close_j {N : Nat → Int32} {j p : Nat} (hj : j < 8) (hp : N 352 = nI p) (hp9 : p ≤ 99) (hb : ∀ c, c < 64 → ∃ b : Bool, N (256 + c) = bI b) : sCloseRow N j (328 + j) = nI 1 := by
  have hbA : ∀ c, c < 64 → ∃ b : Bool, upd (upd N (328 + j) (nI 1)) 353 (upd N (328 + j) (nI 1) 353 - nI (sOpens N (nI j))) (256 + c) = bI b := fun c hc => by
    rw [upd_ne' (by omega), upd_ne' (by omega)]; exact hb c hc
  obtain ⟨h1, -⟩ := fill_law (s := nI j) (show upd (upd N (328 + j) (nI 1)) 353 (upd N (328 + j) (nI 1) 353 - nI (sOpens N (nI j))) 352 = nI p by rw [upd_ne' (by omega), upd_ne' (by omega)]; exact hp) hp9 hbA 64 (Nat.le_refl _)
  show sFillK (upd (upd N (328 + j) (nI 1)) 353 (upd N (328 + j) (nI 1) 353 - nI (sOpens N (nI j)))) (nI j) 64 (328 + j) = _
  rw [h1 _ (by omega), cF_o (by omega) (by omega), upd_ne' (by omega), upd_eq' rfl]
theorem Gd.bit {h : fmHp} {N : Nat → Int32} {c a : Nat} (hG : Gd h N c a) : ∃ b : Bool, N (256 + c) = bI b := by
  rcases hG with ⟨h1, h2, h3, h4⟩ | ⟨p, h1, h2, h4⟩ | ⟨h1, h2, h4⟩
  · exact ⟨false, h3⟩
  · exact ⟨p, h2⟩
  · exact ⟨false, h2⟩
theorem cB_cong {N M : Nat → Int32} {s : Int32} (h : ∀ c, c < 320 → M c = N c) : ∀ {k : Nat}, k ≤ 64 → cB M s k = cB N s k
  | 0, _ => rfl
  | k + 1, hk => by
    rw [cB_1, cB_1, cB_cong h (by omega), so_def, so_def, sb_def, sb_def, h k (by omega), h (192 + k) (by omega), h (256 + k) (by omega)]
theorem dPost.don {G : fmG} {h0 h' : fmHp} {d g sl pl : Nat} {r : ARes} {v : Int32} {N' : Nat → Int32} (hr : r = aDon v N') (h : ∃ (se pe : Nat) (gf sf pf : Nat → Nat) (K pk : Nat), MineAt G h' d g sl se pl pe gf sf pf N' K pk ∧ Dr G h0 h' d g sl se pl pe ∧ N' 350 = nI K ∧ N' 351 = nI pk) : dPost G h0 d g sl pl r (some (.int v)) h' := by
  subst hr
  exact ⟨rfl, rfl, h⟩
