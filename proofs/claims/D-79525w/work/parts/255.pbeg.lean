/-! a text's commands by where they begin -/
def pBeg (T : Nat → Int32) (len : Nat) : Nat → Nat
  | 0 => 0
  | i + 1 => (pCmd T len (pBeg T len i) false 0).2.2.2.2.1 + 1
theorem pGood_beg {T : Nat → Int32} {len : Nat} : ∀ {n a : Nat} {u : Int32}, (∀ i, i < n → ∀ k, a = pBeg T len k → (pCmd T len (pBeg T len (k + i)) false 0).2.2.2.2.2 = false) → (∃ k, a = pBeg T len k) → pGood T len n a u
  | 0, _, _, _, _ => trivial
  | n + 1, a, u, h, ⟨k, hk⟩ => by
    obtain ⟨-, -, e, -⟩ := pCmd_u (T := T) (len := len) (a := a) (w := false) u 0
    have h0 := h 0 (by omega) k hk
    rw [Nat.add_zero, ← hk] at h0
    refine ⟨by rw [e]; exact h0, ?_⟩
    rw [e]
    have hk2 : (pCmd T len a false 0).2.2.2.2.1 + 1 = pBeg T len (k + 1) := by rw [hk]; rfl
    rw [hk2]
    refine pGood_u 0 _ (pGood_beg (u := 0) (fun i hi k2 hk3 => ?_) ⟨k + 1, rfl⟩)
    have h9 := h (i + 1) (by omega) k hk
    have key : ∀ i, pBeg T len (k2 + i) = pBeg T len (k + 1 + i) := fun i => by
      induction i with
      | zero => exact hk3.symm
      | succ i ih => show (pCmd T len (pBeg T len (k2 + i)) false 0).2.2.2.2.1 + 1 = (pCmd T len (pBeg T len (k + 1 + i)) false 0).2.2.2.2.1 + 1; rw [ih]
    rw [key i, show k + 1 + i = k + (i + 1) by omega]
    exact h9
/-- the list's commands: the i-th is that which begins at pBeg i -/
def CmdsAt (G : fmG) (h : fmHp) (T : Nat → Int32) (len : Nat) (f : Nat → Nat) (m : Nat) : Prop := ∀ i, i < m → (pCmd T len (pBeg T len i) false 0).2.2.2.2.2 = false ∧ CmdAt G h (f i) (pCmd T len (pBeg T len i) false 0).1 (pCmd T len (pBeg T len i) false 0).2.1 (pCmd T len (pBeg T len i) false 0).2.2.1 (pCmd T len (pBeg T len i) false 0).2.2.2.1
theorem CmdsAt.good {G : fmG} {h : fmHp} {T : Nat → Int32} {len m : Nat} {f : Nat → Nat} {u : Int32} (hc : CmdsAt G h T len f m) : pGood T len m 0 u := by
  refine pGood_beg (fun i hi k hk => ?_) ⟨0, rfl⟩
  have key : ∀ i, pBeg T len (k + i) = pBeg T len i := fun i => by
    induction i with
    | zero => exact hk.symm
    | succ i ih => show (pCmd T len (pBeg T len (k + i)) false 0).2.2.2.2.1 + 1 = (pCmd T len (pBeg T len i) false 0).2.2.2.2.1 + 1; rw [ih]
  rw [key i]
  exact (hc i hi).1
