/-! FLOATS: none of the quotients is a NaN -/
theorem vf_mask (a : UInt64) : (a &&& 0x7fffffffffffffff).toNat = a.toNat % 2 ^ 63 := by
  rw [UInt64.toNat_and, show (0x7fffffffffffffff : UInt64).toNat = 2 ^ 63 - 1 from rfl, Nat.and_two_pow_sub_one_eq_mod]
/-- bits with these fields -/
theorem vf_asm {s : Bool} {e t : Nat} (h : e ≤ 2046 ∧ t < 4503599627370496 ∨ e = 2047 ∧ t = 0) : vf_n64 (UInt64.ofNat (FP.Core.assemble FP.Core.b64 s e t)) := by
  unfold vf_n64
  rw [UInt64.le_iff_toNat_le, vf_mask, UInt64.toNat_ofNat']
  show ((s.toNat * 2048 + e) * 4503599627370496 + t) % 2 ^ 64 % 2 ^ 63 ≤ 9218868437227405312
  cases s <;> simp only [Bool.toNat_false, Bool.toNat_true] <;> omega
theorem vf_enc {s : Bool} {c : Nat} {q : Int} (hc : c < 2 ^ 53) (hq : q ≤ 971) : vf_n64 (UInt64.ofNat (FP.Core.encode FP.Core.b64 (.fin s c q))) := by
  unfold FP.Core.encode
  by_cases h : c < FP.Core.b64.tails
  · simp only [if_pos h]
    exact vf_asm (Or.inl ⟨by omega, h⟩)
  · simp only [if_neg h]
    have h1 : ¬ c < 4503599627370496 := h
    refine vf_asm (Or.inl ⟨?_, ?_⟩)
    · show (q - (-1074)).toNat + 1 ≤ 2046
      omega
    · show c - 4503599627370496 < 4503599627370496
      omega
theorem vf_inf {s : Bool} : vf_n64 (UInt64.ofNat (FP.Core.encode FP.Core.b64 (.inf s))) := vf_asm (Or.inr ⟨rfl, rfl⟩)
theorem vf_bound {s : Bool} {c : Nat} {q : Int} (hc : c < 2 ^ 53) : vf_n64 (UInt64.ofNat (FP.Core.encode FP.Core.b64 (FP.Core.bound FP.Core.b64 s c q))) := by
  unfold FP.Core.bound
  by_cases h : q ≤ FP.Core.b64.qmax
  · rw [if_pos h]; exact vf_enc hc h
  · rw [if_neg h]; exact vf_inf
theorem vf_ratio {s : Bool} {A B : Nat} {e : Int} : vf_n64 (UInt64.ofNat (FP.Core.encode FP.Core.b64 (FP.Core.roundRatio FP.Core.b64 s A B e))) := by
  unfold FP.Core.roundRatio
  by_cases h : A = 0
  · rw [if_pos h]; exact vf_enc (by decide) (by decide)
  · rw [if_neg h]
    unfold FP.Core.roundAt FP.Core.settle
    split
    · exact vf_bound (by assumption)
    · exact vf_bound (by decide)
/-- what the bits of a number but zero stand for -/
theorem vf_dec {s : Bool} {c : Nat} {q : Int} (h0 : c ≠ 0) (hc : c < 2 ^ 53) (hq : q ≤ 971) : ∃ s' c' q', FP.Core.decode FP.Core.b64 (UInt64.ofNat (FP.Core.encode FP.Core.b64 (.fin s c q))).toNat = .fin s' c' q' ∧ c' ≠ 0 := by
  have key : ∀ (e t : Nat), e ≤ 2046 → t < 4503599627370496 → (e = 0 → t ≠ 0) → ∃ s' c' q', FP.Core.decode FP.Core.b64 (UInt64.ofNat (FP.Core.assemble FP.Core.b64 s e t)).toNat = .fin s' c' q' ∧ c' ≠ 0 := by
    intro e t he ht h1
    rw [UInt64.toNat_ofNat']
    have hn : FP.Core.assemble FP.Core.b64 s e t % 2 ^ 64 = (s.toNat * 2048 + e) * 4503599627370496 + t := by
      show ((s.toNat * 2048 + e) * 4503599627370496 + t) % 2 ^ 64 = _
      cases s <;> simp only [Bool.toNat_false, Bool.toNat_true] <;> omega
    rw [hn]
    have hE : FP.Core.fieldE FP.Core.b64 ((s.toNat * 2048 + e) * 4503599627370496 + t) = e := by
      show ((s.toNat * 2048 + e) * 4503599627370496 + t) / 4503599627370496 % 2048 = e
      omega
    have hT : FP.Core.fieldT FP.Core.b64 ((s.toNat * 2048 + e) * 4503599627370496 + t) = t := by
      show ((s.toNat * 2048 + e) * 4503599627370496 + t) % 4503599627370496 = t
      omega
    unfold FP.Core.decode
    rw [hE, hT, if_neg (show ¬ e = FP.Core.b64.exps - 1 from fun q => by have : e = 2047 := q; omega)]
    by_cases h2 : e = 0
    · rw [if_pos h2]; exact ⟨_, _, _, rfl, h1 h2⟩
    · rw [if_neg h2]; exact ⟨_, _, _, rfl, by have : FP.Core.b64.tails = 4503599627370496 := rfl; omega⟩
  unfold FP.Core.encode
  by_cases h : c < FP.Core.b64.tails
  · simp only [if_pos h]
    exact key 0 c (by omega) h (fun _ => h0)
  · simp only [if_neg h]
    have h1 : ¬ c < 4503599627370496 := h
    refine key _ _ ?_ ?_ (fun z => absurd z (Nat.succ_ne_zero _))
    · show (q - (-1074)).toNat + 1 ≤ 2046
      omega
    · show c - 4503599627370496 < 4503599627370496
      omega
theorem vf_near (n : Nat) : FP.Core.nearest n 1 = n := by
  unfold FP.Core.nearest
  rw [Nat.mod_one, if_pos (by decide), Nat.div_one]
/-- an int as a double is a number, and zero for zero alone -/
theorem vf_i2d {v : Int32} (hv : v ≠ 0) : ∃ s c q, FP.Core.decode FP.Core.b64 (FP.i2d v).toNat = .fin s c q ∧ c ≠ 0 := by
  show ∃ s c q, FP.Core.decode FP.Core.b64 (UInt64.ofNat (FP.Core.encode FP.Core.b64 (FP.Core.roundRatio FP.Core.b64 (decide (v.toInt < 0)) v.toInt.natAbs 1 0))).toNat = .fin s c q ∧ c ≠ 0
  have h1 := Int32.toInt_lt v
  have h2 := Int32.le_toInt v
  have hz : v.toInt ≠ 0 := fun z => hv (Int32.toInt_inj.mp z)
  generalize hA : v.toInt.natAbs = A
  have hA0 : A ≠ 0 := by omega
  have hA31 : A ≤ 2 ^ 31 := by omega
  unfold FP.Core.roundRatio
  rw [if_neg hA0]
  have hlog : A.log2 ≤ 31 := by
    have h3 : A < 2 ^ 32 := Nat.lt_of_le_of_lt hA31 (by decide)
    have := (Nat.log2_lt hA0).mpr h3
    omega
  have hlead : FP.Core.leading A 1 ≤ 31 := by
    unfold FP.Core.leading
    have h4 : Nat.log2 1 = 0 := by decide
    simp only [h4]
    split <;> omega
  generalize hq : FP.Core.quantum FP.Core.b64 A 1 0 = q
  have hq0 : q ≤ 0 := by
    rw [← hq]
    unfold FP.Core.quantum
    have h5 : FP.Core.b64.qmin = -1074 := by decide
    have h6 : (FP.Core.b64.p : Int) = 53 := by decide
    rw [h5, h6]
    omega
  unfold FP.Core.roundAt
  have hden : FP.Core.unitsDen 1 0 q = 1 := by
    unfold FP.Core.unitsDen
    rw [show (q - 0).toNat = 0 by omega]
  have hnum : FP.Core.unitsNum A 0 q ≠ 0 := by
    unfold FP.Core.unitsNum
    exact Nat.mul_ne_zero hA0 (Nat.ne_of_gt (Nat.two_pow_pos _))
  rw [hden, vf_near]
  have hmax : FP.Core.b64.qmax = 971 := by decide
  unfold FP.Core.settle FP.Core.bound
  by_cases hc : FP.Core.unitsNum A 0 q < 2 ^ FP.Core.b64.p
  · rw [if_pos hc, if_pos (by rw [hmax]; omega)]
    exact vf_dec hnum hc (by omega)
  · rw [if_neg hc, if_pos (by rw [hmax]; omega)]
    exact vf_dec (by decide) (by decide) (by omega)
theorem vf_i2d0 : ∃ s q, FP.Core.decode FP.Core.b64 (FP.i2d 0).toNat = .fin s 0 q := ⟨false, -1074, by decide +kernel⟩
theorem vf_ddiv (a : Int32) {b : Int32} (hb : b ≠ 0) : vf_n64 (FP.ddiv (FP.i2d a) (FP.i2d b)) := by
  obtain ⟨t, d, r, h1, h2⟩ := vf_i2d hb
  show vf_n64 (UInt64.ofNat (FP.Core.encode FP.Core.b64 (FP.Core.quotient FP.Core.b64 (FP.Core.decode FP.Core.b64 (FP.i2d a).toNat) (FP.Core.decode FP.Core.b64 (FP.i2d b).toNat))))
  rw [h1]
  have ha : ∃ s c q, FP.Core.decode FP.Core.b64 (FP.i2d a).toNat = .fin s c q := by
    by_cases h : a = 0
    · obtain ⟨s, q, h3⟩ := vf_i2d0; exact ⟨s, 0, q, by rw [h]; exact h3⟩
    · obtain ⟨s, c, q, h3, -⟩ := vf_i2d h; exact ⟨s, c, q, h3⟩
  obtain ⟨s, c, q, h3⟩ := ha
  rw [h3]
  show vf_n64 (UInt64.ofNat (FP.Core.encode FP.Core.b64 (if d = 0 then _ else _)))
  rw [if_neg h2]
  exact vf_ratio
theorem vf_chalk : ∀ k : Fin 65, vf_n32 (FP.fdiv (FP.i2f (nI k.val)) 1115684864) ∧ vf_n64 (FP.f2d (FP.fdiv (FP.i2f (nI k.val)) 1115684864)) := by
  unfold vf_n32 vf_n64
  decide +kernel
section ROWF
variable {G : fmG} {Γ : fmC} {cc : ByteArray} {nL : Nat} {own nm : String} {ret : Option FieldType} {RM : Room} {tb : List ExceptionTableEntry} {h : fmHp} {kc ks pc : Nat} {L : List (Option Value)} {st : List Value}
theorem r_ddiv (E : fmE G Γ cc nL own nm ret RM tb) {x y : UInt64} (hne : vf_n64 (FP.ddiv x y)) (d : decode cc pc = .ok (.ddiv, 1)) (k : fmW G Γ h kc ks (pc + 1) L (.double (FP.ddiv x y) :: st)) : fmW G Γ h kc ks pc L (.double y :: .double x :: st) := by
  intro H lo cx sx ls a1 a2 a3 a4 a5
  exact lv_ddiv E.x E.b d hne (k H lo cx sx ls a1 a2 a3 a4 a5)
theorem r_fdiv (E : fmE G Γ cc nL own nm ret RM tb) {x y : UInt32} (hne : vf_n32 (FP.fdiv x y)) (d : decode cc pc = .ok (.fdiv, 1)) (k : fmW G Γ h kc ks (pc + 1) L (.float (FP.fdiv x y) :: st)) : fmW G Γ h kc ks pc L (.float y :: .float x :: st) := by
  intro H lo cx sx ls a1 a2 a3 a4 a5
  exact lv_fdiv E.x E.b d hne (k H lo cx sx ls a1 a2 a3 a4 a5)
theorem r_f2d (E : fmE G Γ cc nL own nm ret RM tb) {x : UInt32} (hne : vf_n64 (FP.f2d x)) (d : decode cc pc = .ok (.f2d, 1)) (k : fmW G Γ h kc ks (pc + 1) L (.double (FP.f2d x) :: st)) : fmW G Γ h kc ks pc L (.float x :: st) := by
  intro H lo cx sx ls a1 a2 a3 a4 a5
  exact lv_f2d E.x E.b d hne (k H lo cx sx ls a1 a2 a3 a4 a5)
theorem r_dcmp (E : fmE G Γ cc nL own nm ret RM tb) {x y : UInt64} {op : CmpOp} (d : decode cc pc = .ok (.dcmp op, 1)) (k : fmW G Γ h kc ks (pc + 1) L (.int (Op.cmpValue (FP.dcmp x y) op) :: st)) : fmW G Γ h kc ks pc L (.double y :: .double x :: st) := by
  intro H lo cx sx ls a1 a2 a3 a4 a5
  exact lv_dcmp E.x E.b d (k H lo cx sx ls a1 a2 a3 a4 a5)
theorem r_dconst0 (E : fmE G Γ cc nL own nm ret RM tb) (d : decode cc pc = .ok (.dconst 0, 1)) (k : fmW G Γ h kc ks (pc + 1) L (.double 0 :: st)) : fmW G Γ h kc ks pc L st := by
  intro H lo cx sx ls a1 a2 a3 a4 a5
  exact lv_dconst0 E.x E.b d (k H lo cx sx ls a1 a2 a3 a4 a5)
end ROWF
