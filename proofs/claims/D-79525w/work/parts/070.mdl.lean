/-! THE REFERENCE: its cells, its state S = (numbers by field, contents by place) -/
abbrev MSt : Type := (Nat → Int32) × (Nat → Nat → Int32)
def mObj (m : Nat) (S : MSt) : List Value := [.int (S.1 0), .ref (m + 1), .ref (m + 2), .ref (m + 3), .int (S.1 4), .int (S.1 5), .int (S.1 6), .int (S.1 7), .int (S.1 8), .ref (m + 12), .ref (m + 13), .ref (m + 14), .int (S.1 12), .int (S.1 13), .int (S.1 14), .int (S.1 15), .int (S.1 16), .int (S.1 17), .int (S.1 18), .int (S.1 19), .ref (m + 15)]
def mEnt (m : Nat) (S : MSt) (j : Nat) : fmEn :=
  if j = 0 then (true, .inr (.inl (0, mObj m S)))
  else if j = 3 then (true, .inl (8, 8, .inr (.inr (.inr (.inr (fun i => some (m + 4 + i)))))))
  else if j = 14 then (true, .inl (4, 60, .inl (S.2 14)))
  else if j = 12 then (true, .inl (0, 64, .inl (S.2 12)))
  else if j = 13 then (true, .inl (0, 64, .inl (S.2 13)))
  else (true, .inl (0, 356, .inl (S.2 j)))
/-- the reference at m, in state S, beside what h0 says -/
def mdl (m : Nat) (S : MSt) (h0 : fmHp) : fmHp := fun a => if m ≤ a ∧ a < m + 16 then some (mEnt m S (a - m)) else h0 a
theorem mdl_at {m : Nat} {S : MSt} {h0 : fmHp} (j : Nat) (hj : j < 16) : mdl m S h0 (m + j) = some (mEnt m S j) := by
  unfold mdl
  rw [if_pos ⟨by omega, by omega⟩, Nat.add_sub_cancel_left]
theorem mdl_o {m : Nat} {S : MSt} {h0 : fmHp} : mdl m S h0 m = some (true, .inr (.inl (0, mObj m S))) := mdl_at 0 (by decide)
theorem mdl_1 {m : Nat} {S : MSt} {h0 : fmHp} : mdl m S h0 (m + 1) = some (true, .inl (0, 356, .inl (S.2 1))) := mdl_at 1 (by decide)
theorem mdl_2 {m : Nat} {S : MSt} {h0 : fmHp} : mdl m S h0 (m + 2) = some (true, .inl (0, 356, .inl (S.2 2))) := mdl_at 2 (by decide)
theorem mdl_3 {m : Nat} {S : MSt} {h0 : fmHp} : mdl m S h0 (m + 3) = some (true, .inl (8, 8, .inr (.inr (.inr (.inr (fun i => some (m + 4 + i))))))) := mdl_at 3 (by decide)
theorem mdl_r {m : Nat} {S : MSt} {h0 : fmHp} {i : Nat} (hi : i < 8) : mdl m S h0 (m + 4 + i) = some (true, .inl (0, 356, .inl (S.2 (4 + i)))) := by
  rw [Nat.add_assoc, mdl_at (4 + i) (by omega)]
  unfold mEnt
  rw [if_neg (by omega), if_neg (by omega), if_neg (by omega), if_neg (by omega), if_neg (by omega)]
theorem mdl_12 {m : Nat} {S : MSt} {h0 : fmHp} : mdl m S h0 (m + 12) = some (true, .inl (0, 64, .inl (S.2 12))) := mdl_at 12 (by decide)
theorem mdl_13 {m : Nat} {S : MSt} {h0 : fmHp} : mdl m S h0 (m + 13) = some (true, .inl (0, 64, .inl (S.2 13))) := mdl_at 13 (by decide)
theorem mdl_14 {m : Nat} {S : MSt} {h0 : fmHp} : mdl m S h0 (m + 14) = some (true, .inl (4, 60, .inl (S.2 14))) := mdl_at 14 (by decide)
theorem mdl_15 {m : Nat} {S : MSt} {h0 : fmHp} : mdl m S h0 (m + 15) = some (true, .inl (0, 356, .inl (S.2 15))) := mdl_at 15 (by decide)
theorem mdl_up {m : Nat} {S S' : MSt} {h0 : fmHp} (j : Nat) (hj : j < 16) {e : fmEn} (he : e = mEnt m S' j) (ho : ∀ i, i < 16 → i ≠ j → mEnt m S i = mEnt m S' i) : fmUp (mdl m S h0) (m + j) e = mdl m S' h0 := by
  funext q
  unfold fmUp mdl
  by_cases h1 : q = m + j
  · subst h1
    rw [if_pos rfl, if_pos ⟨by omega, by omega⟩, Nat.add_sub_cancel_left, he]
  · rw [if_neg h1]
    by_cases h2 : m ≤ q ∧ q < m + 16
    · rw [if_pos h2, if_pos h2, ho (q - m) (by omega) (by omega)]
    · rw [if_neg h2, if_neg h2]
/-- an array of the row's kind is written -/
theorem mdl_ua {m : Nat} {S : MSt} {h0 : fmHp} (j : Nat) (hj : j < 16) (h0' : j ≠ 0) (f : Nat → Int32) {e : fmEn} (he : e = mEnt m (S.1, va_up S.2 j f) j) : fmUp (mdl m S h0) (m + j) e = mdl m (S.1, va_up S.2 j f) h0 := by
  refine mdl_up j hj he (fun i hi hij => ?_)
  unfold mEnt
  have hv : ∀ k, k ≠ j → va_up S.2 j f k = S.2 k := fun k hk => if_neg hk
  by_cases a0 : i = 0
  · rw [if_pos a0, if_pos a0]; rfl
  · rw [if_neg a0, if_neg a0]
    by_cases a3 : i = 3
    · rw [if_pos a3, if_pos a3]
    · rw [if_neg a3, if_neg a3]
      by_cases a14 : i = 14
      · subst a14; rw [if_pos rfl, if_pos rfl]; show _ = (true, Sum.inl (4, 60, Sum.inl (va_up S.2 j f 14))); rw [hv 14 hij]
      · rw [if_neg a14, if_neg a14]
        by_cases a12 : i = 12
        · subst a12; rw [if_pos rfl, if_pos rfl]; show _ = (true, Sum.inl (0, 64, Sum.inl (va_up S.2 j f 12))); rw [hv 12 hij]
        · rw [if_neg a12, if_neg a12]
          by_cases a13 : i = 13
          · subst a13; rw [if_pos rfl, if_pos rfl]; show _ = (true, Sum.inl (0, 64, Sum.inl (va_up S.2 j f 13))); rw [hv 13 hij]
          · rw [if_neg a13, if_neg a13]; show _ = (true, Sum.inl (0, 356, Sum.inl (va_up S.2 j f i))); rw [hv i hij]
theorem mdl_ur {m : Nat} {S : MSt} {h0 : fmHp} {i : Nat} (hi : i < 8) (f : Nat → Int32) : fmUp (mdl m S h0) (m + 4 + i) (true, .inl (0, 356, .inl f)) = mdl m (S.1, va_up S.2 (4 + i) f) h0 := by
  rw [Nat.add_assoc]
  refine mdl_ua (4 + i) (by omega) (by omega) f ?_
  unfold mEnt
  rw [if_neg (by omega), if_neg (by omega), if_neg (by omega), if_neg (by omega), if_neg (by omega)]
  show _ = (true, Sum.inl (0, 356, Sum.inl (va_up S.2 (4 + i) f (4 + i))))
  rw [show va_up S.2 (4 + i) f (4 + i) = f from if_pos rfl]
/-- the object is written -/
theorem mdl_uo {m : Nat} {S : MSt} {h0 : fmHp} {s' : Nat → Int32} {l : List Value} (hl : l = mObj m (s', S.2)) : fmUp (mdl m S h0) m (true, .inr (.inl (0, l))) = mdl m (s', S.2) h0 := by
  have h := mdl_up (m := m) (S := S) (S' := (s', S.2)) (h0 := h0) 0 (by decide) (e := (true, .inr (.inl (0, l)))) (by rw [hl]; rfl) (fun i hi hi0 => by
    unfold mEnt
    rw [if_neg hi0, if_neg hi0])
  exact h
theorem mdl_s0 {m : Nat} {S : MSt} {h0 : fmHp} (x : Int32) : fmUp (mdl m S h0) m (true, .inr (.inl (0, (mObj m S).set 0 (.int x)))) = mdl m (upd S.1 0 x, S.2) h0 := mdl_uo rfl
theorem mdl_s4 {m : Nat} {S : MSt} {h0 : fmHp} (x : Int32) : fmUp (mdl m S h0) m (true, .inr (.inl (0, (mObj m S).set 4 (.int x)))) = mdl m (upd S.1 4 x, S.2) h0 := mdl_uo rfl
theorem mdl_s5 {m : Nat} {S : MSt} {h0 : fmHp} (x : Int32) : fmUp (mdl m S h0) m (true, .inr (.inl (0, (mObj m S).set 5 (.int x)))) = mdl m (upd S.1 5 x, S.2) h0 := mdl_uo rfl
theorem mdl_s6 {m : Nat} {S : MSt} {h0 : fmHp} (x : Int32) : fmUp (mdl m S h0) m (true, .inr (.inl (0, (mObj m S).set 6 (.int x)))) = mdl m (upd S.1 6 x, S.2) h0 := mdl_uo rfl
theorem mdl_s7 {m : Nat} {S : MSt} {h0 : fmHp} (x : Int32) : fmUp (mdl m S h0) m (true, .inr (.inl (0, (mObj m S).set 7 (.int x)))) = mdl m (upd S.1 7 x, S.2) h0 := mdl_uo rfl
theorem mdl_s8 {m : Nat} {S : MSt} {h0 : fmHp} (x : Int32) : fmUp (mdl m S h0) m (true, .inr (.inl (0, (mObj m S).set 8 (.int x)))) = mdl m (upd S.1 8 x, S.2) h0 := mdl_uo rfl
theorem mdl_s12 {m : Nat} {S : MSt} {h0 : fmHp} (x : Int32) : fmUp (mdl m S h0) m (true, .inr (.inl (0, (mObj m S).set 12 (.int x)))) = mdl m (upd S.1 12 x, S.2) h0 := mdl_uo rfl
theorem mdl_s13 {m : Nat} {S : MSt} {h0 : fmHp} (x : Int32) : fmUp (mdl m S h0) m (true, .inr (.inl (0, (mObj m S).set 13 (.int x)))) = mdl m (upd S.1 13 x, S.2) h0 := mdl_uo rfl
theorem mdl_s14 {m : Nat} {S : MSt} {h0 : fmHp} (x : Int32) : fmUp (mdl m S h0) m (true, .inr (.inl (0, (mObj m S).set 14 (.int x)))) = mdl m (upd S.1 14 x, S.2) h0 := mdl_uo rfl
theorem mdl_s15 {m : Nat} {S : MSt} {h0 : fmHp} (x : Int32) : fmUp (mdl m S h0) m (true, .inr (.inl (0, (mObj m S).set 15 (.int x)))) = mdl m (upd S.1 15 x, S.2) h0 := mdl_uo rfl
theorem mdl_s16 {m : Nat} {S : MSt} {h0 : fmHp} (x : Int32) : fmUp (mdl m S h0) m (true, .inr (.inl (0, (mObj m S).set 16 (.int x)))) = mdl m (upd S.1 16 x, S.2) h0 := mdl_uo rfl
theorem mdl_s17 {m : Nat} {S : MSt} {h0 : fmHp} (x : Int32) : fmUp (mdl m S h0) m (true, .inr (.inl (0, (mObj m S).set 17 (.int x)))) = mdl m (upd S.1 17 x, S.2) h0 := mdl_uo rfl
theorem mdl_s18 {m : Nat} {S : MSt} {h0 : fmHp} (x : Int32) : fmUp (mdl m S h0) m (true, .inr (.inl (0, (mObj m S).set 18 (.int x)))) = mdl m (upd S.1 18 x, S.2) h0 := mdl_uo rfl
theorem mdl_s19 {m : Nat} {S : MSt} {h0 : fmHp} (x : Int32) : fmUp (mdl m S h0) m (true, .inr (.inl (0, (mObj m S).set 19 (.int x)))) = mdl m (upd S.1 19 x, S.2) h0 := mdl_uo rfl
theorem mdl_a1 {m : Nat} {S : MSt} {h0 : fmHp} (f : Nat → Int32) : fmUp (mdl m S h0) (m + 1) (true, .inl (0, 356, .inl f)) = mdl m (S.1, va_up S.2 1 f) h0 := mdl_ua 1 (by decide) (by decide) f rfl
theorem mdl_a2 {m : Nat} {S : MSt} {h0 : fmHp} (f : Nat → Int32) : fmUp (mdl m S h0) (m + 2) (true, .inl (0, 356, .inl f)) = mdl m (S.1, va_up S.2 2 f) h0 := mdl_ua 2 (by decide) (by decide) f rfl
theorem mdl_a12 {m : Nat} {S : MSt} {h0 : fmHp} (f : Nat → Int32) : fmUp (mdl m S h0) (m + 12) (true, .inl (0, 64, .inl f)) = mdl m (S.1, va_up S.2 12 f) h0 := mdl_ua 12 (by decide) (by decide) f rfl
theorem mdl_a13 {m : Nat} {S : MSt} {h0 : fmHp} (f : Nat → Int32) : fmUp (mdl m S h0) (m + 13) (true, .inl (0, 64, .inl f)) = mdl m (S.1, va_up S.2 13 f) h0 := mdl_ua 13 (by decide) (by decide) f rfl
theorem mdl_a15 {m : Nat} {S : MSt} {h0 : fmHp} (f : Nat → Int32) : fmUp (mdl m S h0) (m + 15) (true, .inl (0, 356, .inl f)) = mdl m (S.1, va_up S.2 15 f) h0 := mdl_ua 15 (by decide) (by decide) f rfl
theorem mdl_a14 {m : Nat} {S : MSt} {h0 : fmHp} (f : Nat → Int32) : fmUp (mdl m S h0) (m + 14) (true, .inl (4, 60, .inl f)) = mdl m (S.1, va_up S.2 14 f) h0 := mdl_ua 14 (by decide) (by decide) f rfl
