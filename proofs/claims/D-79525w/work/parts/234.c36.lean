set_option maxHeartbeats 4000000 in
theorem ct_X10_isAt (G : fmG) (hl : (fmLn G).stackTraces = false) (h : fmHp) {x far qu d pa sb : Nat} {fl re de : Int32} {sv : Value} (hC : CC G h) (hx : DkO h x far qu d pa sb fl re de sv) (p a : Nat) (hp : h p = some (true, .inr (.inl (8, [.int (nI a), .ref x])))) (v len : Nat) (T : Nat → Int32) (hS : SBt h sb v len T) (hlen : len ≤ 60) (hch : ∀ i, i < len → ∃ k, k < 65536 ∧ T i = nI k) (ha : a ≤ 1000) (lo hi : Int32) : Ct G yX10_isAt (ws_ yX10_isAt cX10_isAt 3 (some .boolean)) { frames := 4, cells := 0, slots := 0, locals := 88 } [.ref p, .int lo, .int hi] h (fmRet (some (.int (bI (pSee T len a false lo hi)))) h) fmNo := by
  refine Ct.of hl (by decide +kernel) (Nat.le_of_ble_eq_true rfl) (fun Γ E P => ?_)
  obtain ⟨u, ml, cap, bf, hsb, hv, hrr⟩ := id hS
  have hpx : p ≠ x := fun z => by have hx0 : h x = some (true, .inr (.inl (1, [.ref far, .ref qu, .ref d, .ref pa, .ref sb, .int fl, .int re, .int de, sv]))) := hx; rw [z, hx0] at hp; cases hp
  have hps : p ≠ sb := fun z => by rw [z, hsb] at hp; cases hp
  have hpv : p ≠ v := fun z => by rw [z, hv] at hp; cases hp
  refine r_aload_n E dX10_isAt_0 rfl ?_
  refine r_getf E cl_X10 0 (by decide) q1488 hp rfl dX10_isAt_1 ?_
  refine r_aload_n E dX10_isAt_4 rfl ?_
  refine r_getf E cl_X10 1 (by decide) q1489 hp rfl dX10_isAt_5 ?_
  refine r_getfN E cl_X1 4 (by decide) q274 hx rfl dX10_isAt_8 ?_
  refine r_callV1 (v1 := .int (nI len)) E (ct_J5_length G hl (h) sb v len 0 u ml (fun _ => 0) hsb) mJ5_length q1510 q1353 q1354 (fun H a1 => fm_rc (ci := 15) (C := RJ5) (T := TJ5) (N := 4) a1 rfl E.v hsb) rfl rfl (Nat.le_of_ble_eq_true rfl) (Nat.le_of_ble_eq_true rfl) (Nat.le_of_ble_eq_true rfl) dX10_isAt_11 0 0 (Nat.le_of_ble_eq_true rfl) (Nat.le_of_ble_eq_true rfl) ?_
  refine r_icmpN_ge (tgt := 43) E dX10_isAt_14 (by decide) (by omega) (by omega) (fun c1 => ?_) (fun c1 => ?_)
  · refine r_iconst E (nI 0) dX10_isAt_43 (by decide) ?_
    refine r_top (v' := .int (bI (pSee T len a false lo hi))) (congrArg (fun z => Value.int (bI z)) (show false = (!false && (decide (a < len) && sBetween (T a) lo hi)) by rw [decide_eq_false (by omega)]; rfl)) ?_
    exact r_zreturn E P rfl dX10_isAt_44 ⟨rfl, rfl⟩
  · obtain ⟨k, hk, hT⟩ := hch a (by omega)
    refine r_aload_n E dX10_isAt_17 rfl ?_
    refine r_getf E cl_X10 1 (by decide) q1489 hp rfl dX10_isAt_18 ?_
    refine r_getfN E cl_X1 4 (by decide) q274 hx rfl dX10_isAt_21 ?_
    refine r_aload_n E dX10_isAt_24 rfl ?_
    refine r_getf E cl_X10 0 (by decide) q1488 hp rfl dX10_isAt_25 ?_
    refine r_callV1 (v1 := .int (nI k)) E (ct_J5_charAt G hl h sb v len T hS hC a k (by omega) (by omega) hk hT) mJ5_charAt q1511 q1512 q1513 (fun H a1 => fm_rc (ci := 15) (C := RJ5) (T := TJ5) (N := 4) a1 rfl E.v hsb) rfl rfl (Nat.le_of_ble_eq_true rfl) (Nat.le_of_ble_eq_true rfl) (Nat.le_of_ble_eq_true rfl) dX10_isAt_28 0 0 (Nat.le_of_ble_eq_true rfl) (Nat.le_of_ble_eq_true rfl) ?_
    refine r_iload_n E dX10_isAt_31 rfl ?_
    refine r_iload_n E dX10_isAt_32 rfl ?_
    refine r_callSN1 (v1 := .int (bI (sBetween (nI k) lo hi))) E (ct_X1_inRange G hl (h) (nI k) lo hi) mX1_inRange q78 q1599 q629 rfl rfl (Nat.le_of_ble_eq_true rfl) (Nat.le_of_ble_eq_true rfl) (Nat.le_of_ble_eq_true rfl) dX10_isAt_33 0 0 (Nat.le_of_ble_eq_true rfl) (Nat.le_of_ble_eq_true rfl) ?_
    refine r_ifB_eq (b := sBetween (nI k) lo hi) (tgt := 43) E dX10_isAt_36 (by decide) (fun hcb => ?_) (fun hcb => ?_)
    · refine r_iconst E (nI 0) dX10_isAt_43 (by decide) ?_
      refine r_top (v' := .int (bI (pSee T len a false lo hi))) (congrArg (fun z => Value.int (bI z)) (show false = (!false && (decide (a < len) && sBetween (T a) lo hi)) by rw [decide_eq_true (by omega), hT, hcb]; rfl)) ?_
      exact r_zreturn E P rfl dX10_isAt_44 ⟨rfl, rfl⟩
    · refine r_iconst E (nI 1) dX10_isAt_39 (by decide) ?_
      refine r_goto (tgt := 44) E dX10_isAt_40 (by decide) ?_
      refine r_top (v' := .int (bI (pSee T len a false lo hi))) (congrArg (fun z => Value.int (bI z)) (show true = (!false && (decide (a < len) && sBetween (T a) lo hi)) by rw [decide_eq_true (by omega), hT, hcb]; rfl)) ?_
      exact r_zreturn E P rfl dX10_isAt_44 ⟨rfl, rfl⟩

set_option maxHeartbeats 4000000 in
theorem ctT_X10_take (G : fmG) (hl : (fmLn G).stackTraces = false) (h : fmHp) {x far qu d pa sb : Nat} {fl re de : Int32} {sv : Value} (hC : CC G h) (hx : DkO h x far qu d pa sb fl re de sv) (p a : Nat) (hp : h p = some (true, .inr (.inl (8, [.int (nI a), .ref x])))) (v len : Nat) (T : Nat → Int32) (hS : SBt h sb v len T) (hlen : len ≤ 60) (hch : ∀ i, i < len → ∃ k, k < 65536 ∧ T i = nI k) (ha : a ≤ 1000) (lo hi : Int32) (hs : pSee T len a false lo hi = true) : Ct G yX10_take (ws_ yX10_take cX10_take 3 (some .char)) { frames := 5, cells := 0, slots := 0, locals := 110 } [.ref p, .int lo, .int hi] h (fmRet (some (.int (T a))) (fmUp h p (true, .inr (.inl (8, [.int (nI (a + 1)), .ref x]))))) fmNo := by
  refine Ct.of hl (by decide +kernel) (Nat.le_of_ble_eq_true rfl) (fun Γ E P => ?_)
  obtain ⟨u, ml, cap, bf, hsb, hv, hrr⟩ := id hS
  have hpx : p ≠ x := fun z => by have hx0 : h x = some (true, .inr (.inl (1, [.ref far, .ref qu, .ref d, .ref pa, .ref sb, .int fl, .int re, .int de, sv]))) := hx; rw [z, hx0] at hp; cases hp
  have hps : p ≠ sb := fun z => by rw [z, hsb] at hp; cases hp
  have hpv : p ≠ v := fun z => by rw [z, hv] at hp; cases hp
  have hs2 := hs
  unfold pSee at hs2
  rw [Bool.not_false, Bool.true_and, Bool.and_eq_true] at hs2
  have hal := of_decide_eq_true hs2.1
  obtain ⟨k, hk, hT⟩ := hch a hal
  refine r_aload_n E dX10_take_0 rfl ?_
  refine r_iload_n E dX10_take_1 rfl ?_
  refine r_iload_n E dX10_take_2 rfl ?_
  refine r_callV1 (v1 := .int (bI (pSee T len a false lo hi))) E (ct_X10_isAt G hl h hC hx p a hp v len T hS hlen hch ha lo hi) mX10_isAt q1595 q1597 qs30 (fun H a1 => fm_rc (ci := 8) (C := RX10) (T := TX10) (N := 2) a1 rfl E.v hp) rfl rfl (Nat.le_of_ble_eq_true rfl) (Nat.le_of_ble_eq_true rfl) (Nat.le_of_ble_eq_true rfl) dX10_take_3 0 0 (Nat.le_of_ble_eq_true rfl) (Nat.le_of_ble_eq_true rfl) ?_
  refine r_ifB_ne (b := pSee T len a false lo hi) (tgt := 21) E dX10_take_6 (by decide) (fun c1 => ?_) (fun c1 => ?_)
  · refine r_aload_n E dX10_take_21 rfl ?_
    refine r_dup E dX10_take_22 rfl ?_
    refine r_getf E cl_X10 0 (by decide) q1488 hp rfl dX10_take_23 ?_
    refine r_iconst E (nI 1) dX10_take_26 (by decide) ?_
    refine r_iaddN E dX10_take_27 ?_
    refine r_putf E cl_X10 0 (by decide) rfl q1488 (fun _ z => z) hp (Nat.le_of_ble_eq_true rfl) rfl rfl dX10_take_28 ?_
    refine r_hp (h' := fmUp h p (true, .inr (.inl (8, [.int (nI (a + 1)), .ref x])))) (rfl) ?_
    refine r_aload_n E dX10_take_31 rfl ?_
    refine r_getf E cl_X10 1 (by decide) q1489 fmUp_s rfl dX10_take_32 ?_
    refine r_getfN E cl_X1 4 (by decide) q274 ((fmUp_n (Ne.symm hpx)).trans hx) rfl dX10_take_35 ?_
    refine r_aload_n E dX10_take_38 rfl ?_
    refine r_getf E cl_X10 0 (by decide) q1488 fmUp_s rfl dX10_take_39 ?_
    refine r_iconst E (nI 1) dX10_take_42 (by decide) ?_
    refine r_isubN E dX10_take_43 (by omega) ?_
    refine r_top (v' := .int (nI a)) rfl ?_
    have hS2 : SBt (fmUp h p (true, .inr (.inl (8, [.int (nI (a + 1)), .ref x])))) sb v len T := hS.kept (fun z hz => (fmUp_n (fun z => hps z.symm)).trans hz) (fun z hz => (fmUp_n (fun z => hpv z.symm)).trans hz)
    have hC2 : CC G (fmUp h p (true, .inr (.inl (8, [.int (nI (a + 1)), .ref x])))) := hC.kept (fun q z hq => (fmUp_n (fun z => by rw [z, hp] at hq; cases hq)).trans hq)
    refine r_callV1 (v1 := .int (nI k)) E (ct_J5_charAt G hl _ sb v len T hS2 hC2 a k hal (by omega) hk hT) mJ5_charAt q1511 q1512 q1513 (fun H a1 => fm_rc (ci := 15) (C := RJ5) (T := TJ5) (N := 4) a1 rfl E.v ((fmUp_n (Ne.symm hps)).trans hsb)) rfl rfl (Nat.le_of_ble_eq_true rfl) (Nat.le_of_ble_eq_true rfl) (Nat.le_of_ble_eq_true rfl) dX10_take_44 0 0 (Nat.le_of_ble_eq_true rfl) (Nat.le_of_ble_eq_true rfl) ?_
    exact r_greturn E P rfl (nar_c hk) dX10_take_47 ⟨by rw [hT], rfl⟩
  · rw [hs] at c1; cases c1

set_option maxHeartbeats 4000000 in
theorem ctF_X10_take (G : fmG) (hl : (fmLn G).stackTraces = false) (h : fmHp) {x far qu d pa sb : Nat} {fl re de : Int32} {sv : Value} (hC : CC G h) (hx : DkO h x far qu d pa sb fl re de sv) (p a : Nat) (hp : h p = some (true, .inr (.inl (8, [.int (nI a), .ref x])))) (v len : Nat) (T : Nat → Int32) (hS : SBt h sb v len T) (hlen : len ≤ 60) (hch : ∀ i, i < len → ∃ k, k < 65536 ∧ T i = nI k) (ha : a ≤ 1000) (lo hi : Int32) (hs : pSee T len a false lo hi = false) : Ct G yX10_take (ws_ yX10_take cX10_take 3 (some .char)) { frames := 5, cells := 1, slots := 7, locals := 110 } [.ref p, .int lo, .int hi] h (fun _ _ => False) (fun q Ex h' => Ex = "FlintMine$FaultException" ∧ h q = none ∧ h' = fmUp h q (true, .inr (.inl (11, [.null, .null, .null, .null, .null, .int 0, .int (nI a)])))) := by
  refine Ct.of hl (by decide +kernel) (Nat.le_of_ble_eq_true rfl) (fun Γ E P => ?_)
  obtain ⟨u, ml, cap, bf, hsb, hv, hrr⟩ := id hS
  have hpx : p ≠ x := fun z => by have hx0 : h x = some (true, .inr (.inl (1, [.ref far, .ref qu, .ref d, .ref pa, .ref sb, .int fl, .int re, .int de, sv]))) := hx; rw [z, hx0] at hp; cases hp
  have hps : p ≠ sb := fun z => by rw [z, hsb] at hp; cases hp
  have hpv : p ≠ v := fun z => by rw [z, hv] at hp; cases hp
  refine r_aload_n E dX10_take_0 rfl ?_
  refine r_iload_n E dX10_take_1 rfl ?_
  refine r_iload_n E dX10_take_2 rfl ?_
  refine r_callV1 (v1 := .int (bI (pSee T len a false lo hi))) E (ct_X10_isAt G hl h hC hx p a hp v len T hS hlen hch ha lo hi) mX10_isAt q1595 q1597 qs30 (fun H a1 => fm_rc (ci := 8) (C := RX10) (T := TX10) (N := 2) a1 rfl E.v hp) rfl rfl (Nat.le_of_ble_eq_true rfl) (Nat.le_of_ble_eq_true rfl) (Nat.le_of_ble_eq_true rfl) dX10_take_3 1 7 (Nat.le_of_ble_eq_true rfl) (Nat.le_of_ble_eq_true rfl) ?_
  refine r_ifB_ne (b := pSee T len a false lo hi) (tgt := 21) E dX10_take_6 (by decide) (fun c1 => ?_) (fun c1 => ?_)
  · rw [hs] at c1; cases c1
  · refine r_new E cl_X11 [.null, .null, .null, .null, .null, .int 0, .int 0] q1600 q1601 q120 (by decide) 0 0 (Nat.le_of_ble_eq_true rfl) (Nat.le_of_ble_eq_true rfl) dX10_take_9 (fun fx hfx kfx => ?_)
    refine r_dup E dX10_take_12 rfl ?_
    refine r_aload_n E dX10_take_13 rfl ?_
    refine r_getf E cl_X10 0 (by decide) q1488 (fmUp_of hp hfx) rfl dX10_take_14 ?_
    refine r_callI0 E (ct_X11_init G hl (fmUp h fx (true, .inr (.inl (11, [.null, .null, .null, .null, .null, .int 0, .int 0])))) fx (nI a) fmUp_s) mX11_init rfl q1609 q1610 rfl rfl (Nat.le_of_ble_eq_true rfl) (Nat.le_of_ble_eq_true rfl) (Nat.le_of_ble_eq_true rfl) dX10_take_17 0 0 (Nat.le_of_ble_eq_true rfl) (Nat.le_of_ble_eq_true rfl) ?_
    refine r_athrow E (ci := 11) rfl fmUp_s dX10_take_20 ?_
    exact r_xout E P (fun x hx => by cases hx) ⟨rfl, hfx, fmUp_uu _ _ _ _⟩

