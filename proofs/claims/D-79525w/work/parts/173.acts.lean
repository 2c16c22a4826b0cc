/-! what can be done to a mine, by its number -/
def aAct (N : Nat → Int32) (t : Nat) (f : Nat → Int32) (K pk : Nat) : ARes := match t with
  | 0 => aRock N (f 0) (f 1) (f 2)
  | 1 => aRoof N (f 0)
  | 2 => aProps N (f 0)
  | 3 => aPick N (f 0) pk
  | 4 => aSink N (f 0) K pk
  | 5 => aDig N (f 0) (f 1) (decide (0 < f 2)) K pk
  | 6 => aProp N (f 0)
  | 7 => aUnprop N (f 0)
  | _ => aClose N (f 0) K
def actN (t : Nat) : Nat := if t = 0 ∨ t = 5 then 3 else 1
theorem dPost.eq {G : fmG} {h0 h' : fmHp} {d g sl pl : Nat} {r r' : ARes} {v : Option Value} (e : r = r') (h : dPost G h0 d g sl pl r v h') : dPost G h0 d g sl pl r' v h' := e ▸ h
theorem dXp.eq {h0 h' : fmHp} {r r' : ARes} {q : Nat} {Ex : String} (e : r = r') (h : dXp h0 r q Ex h') : dXp h0 r' q Ex h' := e ▸ h
theorem sBtw_1 {v : Int32} (h : sBetween v (nI 1) (nI 99) = true) : ∃ q, 1 ≤ q ∧ q ≤ 99 ∧ v = nI q := by
  have h0 : sBetween v (nI 0) (nI 99) = true := by
    unfold sBetween at h ⊢
    rw [Bool.and_eq_true, Bool.not_eq_true', Bool.not_eq_true', decide_eq_false_iff_not, decide_eq_false_iff_not] at h ⊢
    exact ⟨fun z => h.1 (Int32.lt_trans z (nI_lt (by decide) (by decide))), h.2⟩
  obtain ⟨q, h1, h2⟩ := sBtw_of (by decide) h0
  refine ⟨q, ?_, h1, h2⟩
  unfold sBetween at h
  rw [Bool.and_eq_true, Bool.not_eq_true', Bool.not_eq_true', decide_eq_false_iff_not, decide_eq_false_iff_not, h2] at h
  exact (nI_leI (by decide) (by omega)).mp (Int32.not_lt.mp h.1)
