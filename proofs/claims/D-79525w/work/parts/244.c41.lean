set_option maxHeartbeats 4000000 in
theorem ctA_X10_number (G : fmG) (hl : (fmLn G).stackTraces = false) (h : fmHp) {x far qu d pa sb : Nat} {fl re de : Int32} {sv : Value} (hC : CC G h) (hx : DkO h x far qu d pa sb fl re de sv) (p a : Nat) (hp : h p = some (true, .inr (.inl (8, [.int (nI a), .ref x])))) (v len : Nat) (T : Nat → Int32) (hS : SBt h sb v len T) (hlen : len ≤ 60) (hch : ∀ i, i < len → ∃ k, k < 65536 ∧ T i = nI k) (ha : a ≤ 1000)  : Ct G yX10_number (ws_ yX10_number cX10_number 2 (some .int)) { frames := 6, cells := 1, slots := 7, locals := 132 } [.ref p] h (fun v0 h' => (pNum T len a false).2.2 = false ∧ v0 = some (.int (pNum T len a false).1) ∧ h' = fmUp h p (true, .inr (.inl (8, [.int (nI (pNum T len a false).2.1), .ref x])))) (fun q Ex h' => ((pNum T len a false).2.2 = true ∧ (pNum T len a false).2.1 = a) ∧ Ex = "FlintMine$FaultException" ∧ h q = none ∧ h' = fmUp h q (true, .inr (.inl (11, [.null, .null, .null, .null, .null, .int 0, .int (nI a)])))) := by
  refine Ct.of hl (by decide +kernel) (Nat.le_of_ble_eq_true rfl) (fun Γ E P => ?_)
  obtain ⟨u, ml, cap, bf, hsb, hv, hrr⟩ := id hS
  have hpx : p ≠ x := fun z => by have hx0 : h x = some (true, .inr (.inl (1, [.ref far, .ref qu, .ref d, .ref pa, .ref sb, .int fl, .int re, .int de, sv]))) := hx; rw [z, hx0] at hp; cases hp
  have hps : p ≠ sb := fun z => by rw [z, hsb] at hp; cases hp
  have hpv : p ≠ v := fun z => by rw [z, hv] at hp; cases hp
  refine r_aload_n E dX10_number_0 rfl ?_
  refine r_bipush E (nI 48) dX10_number_1 (by decide) ?_
  refine r_bipush E (nI 57) dX10_number_3 (by decide) ?_
  cases hs : pSee T len a false (nI 48) (nI 57) with
  | false =>
    refine r_callV E (ctF_X10_take G hl h hC hx p a hp v len T hS hlen hch (by omega) (nI 48) (nI 57) hs) mX10_take q1591 q1593 qs29 (fun H a1 => fm_rc (ci := 8) (C := RX10) (T := TX10) (N := 2) a1 rfl E.v hp) rfl rfl (Nat.le_of_ble_eq_true rfl) (Nat.le_of_ble_eq_true rfl) (Nat.le_of_ble_eq_true rfl) dX10_number_5 0 0 (Nat.le_of_ble_eq_true rfl) (Nat.le_of_ble_eq_true rfl) (fun _ _ q => q.elim) (fun q Ex h' hx => ?_)
    exact r_xout E P (fun x hx => by cases hx) ⟨by rw [pNum_0 hs]; exact ⟨rfl, rfl⟩, hx⟩
  | true =>
    have hal : a < len := by
      have z := hs
      unfold pSee at z
      rw [Bool.not_false, Bool.true_and, Bool.and_eq_true] at z
      exact of_decide_eq_true z.1
    refine r_callV1 (v1 := .int (T a)) E (ctT_X10_take G hl h hC hx p a hp v len T hS hlen hch (by omega) (nI 48) (nI 57) hs) mX10_take q1591 q1593 qs29 (fun H a1 => fm_rc (ci := 8) (C := RX10) (T := TX10) (N := 2) a1 rfl E.v hp) rfl rfl (Nat.le_of_ble_eq_true rfl) (Nat.le_of_ble_eq_true rfl) (Nat.le_of_ble_eq_true rfl) dX10_number_5 1 7 (Nat.le_of_ble_eq_true rfl) (Nat.le_of_ble_eq_true rfl) ?_
    have hx1 := (fmUp_n (e := (true, .inr (.inl (8, [.int (nI (a + 1)), .ref x])))) (fun z => hpx z.symm)).trans hx
    have hS1 : SBt (fmUp h p (true, .inr (.inl (8, [.int (nI (a + 1)), .ref x])))) sb v len T := hS.kept (fun z hz => (fmUp_n (fun z => hps z.symm)).trans hz) (fun z hz => (fmUp_n (fun z => hpv z.symm)).trans hz)
    have hC1 : CC G (fmUp h p (true, .inr (.inl (8, [.int (nI (a + 1)), .ref x])))) := hC.kept (fun q z hq => (fmUp_n (fun z => by rw [z, hp] at hq; cases hq)).trans hq)
    refine r_bipush E (nI 48) dX10_number_8 (by decide) ?_
    refine r_isub E dX10_number_10 ?_
    refine r_istore_n E [some (.ref p), some (.int ((T a) - (nI 48)))] dX10_number_11 rfl rfl ?_
    refine r_aload_n E dX10_number_12 rfl ?_
    refine r_bipush E (nI 48) dX10_number_13 (by decide) ?_
    refine r_bipush E (nI 57) dX10_number_15 (by decide) ?_
    refine r_callV1 (v1 := .int (bI (pSee T len (a + 1) false (nI 48) (nI 57)))) E (ct_X10_isAt G hl (fmUp h p (true, .inr (.inl (8, [.int (nI (a + 1)), .ref x])))) hC1 hx1 p (a + 1) fmUp_s v len T hS1 hlen hch (by omega) (nI 48) (nI 57)) mX10_isAt q1595 q1597 qs30 (fun H a1 => fm_rc (ci := 8) (C := RX10) (T := TX10) (N := 2) a1 rfl E.v fmUp_s) rfl rfl (Nat.le_of_ble_eq_true rfl) (Nat.le_of_ble_eq_true rfl) (Nat.le_of_ble_eq_true rfl) dX10_number_17 1 7 (Nat.le_of_ble_eq_true rfl) (Nat.le_of_ble_eq_true rfl) ?_
    refine r_ifB_eq (b := pSee T len (a + 1) false (nI 48) (nI 57)) (tgt := 42) E dX10_number_20 (by decide) (fun hb2 => ?_) (fun hb2 => ?_)
    · refine r_iload_n E dX10_number_42 rfl ?_
      exact r_ireturn E P rfl dX10_number_43 (by rw [pNum_1 hs hb2]; exact ⟨rfl, rfl, rfl⟩)
    · refine r_bipush E (nI 10) dX10_number_23 (by decide) ?_
      refine r_iload_n E dX10_number_25 rfl ?_
      refine r_imul E dX10_number_26 ?_
      refine r_aload_n E dX10_number_27 rfl ?_
      refine r_bipush E (nI 48) dX10_number_28 (by decide) ?_
      refine r_bipush E (nI 57) dX10_number_30 (by decide) ?_
      refine r_callV1 (v1 := .int (T (a + 1))) E (ctT_X10_take G hl (fmUp h p (true, .inr (.inl (8, [.int (nI (a + 1)), .ref x])))) hC1 hx1 p (a + 1) fmUp_s v len T hS1 hlen hch (by omega) (nI 48) (nI 57) hb2) mX10_take q1591 q1593 qs29 (fun H a1 => fm_rc (ci := 8) (C := RX10) (T := TX10) (N := 2) a1 rfl E.v fmUp_s) rfl rfl (Nat.le_of_ble_eq_true rfl) (Nat.le_of_ble_eq_true rfl) (Nat.le_of_ble_eq_true rfl) dX10_number_32 1 7 (Nat.le_of_ble_eq_true rfl) (Nat.le_of_ble_eq_true rfl) ?_
      refine r_hp (h' := fmUp h p (true, .inr (.inl (8, [.int (nI (a + 2)), .ref x])))) (fmUp_uu _ _ _ _) ?_
      have hx2 := (fmUp_n (e := (true, .inr (.inl (8, [.int (nI (a + 2)), .ref x])))) (fun z => hpx z.symm)).trans hx
      have hS2 : SBt (fmUp h p (true, .inr (.inl (8, [.int (nI (a + 2)), .ref x])))) sb v len T := hS.kept (fun z hz => (fmUp_n (fun z => hps z.symm)).trans hz) (fun z hz => (fmUp_n (fun z => hpv z.symm)).trans hz)
      have hC2 : CC G (fmUp h p (true, .inr (.inl (8, [.int (nI (a + 2)), .ref x])))) := hC.kept (fun q z hq => (fmUp_n (fun z => by rw [z, hp] at hq; cases hq)).trans hq)
      refine r_iadd E dX10_number_35 ?_
      refine r_bipush E (nI 48) dX10_number_36 (by decide) ?_
      refine r_isub E dX10_number_38 ?_
      refine r_goto (tgt := 43) E dX10_number_39 (by decide) ?_
      exact r_ireturn E P rfl dX10_number_43 (by rw [pNum_2 hs hb2]; exact ⟨rfl, rfl, rfl⟩)

