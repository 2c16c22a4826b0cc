set_option maxHeartbeats 4000000 in
theorem ctF_X10_number (G : fmG) (hl : (fmLn G).stackTraces = false) (h : fmHp) {x far qu d pa sb : Nat} {fl re de : Int32} {sv : Value} (hC : CC G h) (hx : DkO h x far qu d pa sb fl re de sv) (p a : Nat) (hp : h p = some (true, .inr (.inl (8, [.int (nI a), .ref x])))) (v len : Nat) (T : Nat → Int32) (hS : SBt h sb v len T) (hlen : len ≤ 60) (hch : ∀ i, i < len → ∃ k, k < 65536 ∧ T i = nI k) (ha : a ≤ 1000) (hs : pSee T len a false (nI 48) (nI 57) = false) : Ct G yX10_number (ws_ yX10_number cX10_number 2 (some .int)) { frames := 6, cells := 1, slots := 7, locals := 132 } [.ref p] h (fun _ _ => False) (fun q Ex h' => Ex = "FlintMine$FaultException" ∧ h q = none ∧ h' = fmUp h q (true, .inr (.inl (11, [.null, .null, .null, .null, .null, .int 0, .int (nI a)])))) := by
  refine Ct.of hl (by decide +kernel) (Nat.le_of_ble_eq_true rfl) (fun Γ E P => ?_)
  obtain ⟨u, ml, cap, bf, hsb, hv, hrr⟩ := id hS
  have hpx : p ≠ x := fun z => by have hx0 : h x = some (true, .inr (.inl (1, [.ref far, .ref qu, .ref d, .ref pa, .ref sb, .int fl, .int re, .int de, sv]))) := hx; rw [z, hx0] at hp; cases hp
  have hps : p ≠ sb := fun z => by rw [z, hsb] at hp; cases hp
  have hpv : p ≠ v := fun z => by rw [z, hv] at hp; cases hp
  refine r_aload_n E dX10_number_0 rfl ?_
  refine r_bipush E (nI 48) dX10_number_1 (by decide) ?_
  refine r_bipush E (nI 57) dX10_number_3 (by decide) ?_
  refine r_callV E (ctF_X10_take G hl h hC hx p a hp v len T hS hlen hch (by omega) (nI 48) (nI 57) hs) mX10_take q1591 q1593 qs29 (fun H a1 => fm_rc (ci := 8) (C := RX10) (T := TX10) (N := 2) a1 rfl E.v hp) rfl rfl (Nat.le_of_ble_eq_true rfl) (Nat.le_of_ble_eq_true rfl) (Nat.le_of_ble_eq_true rfl) dX10_number_5 0 0 (Nat.le_of_ble_eq_true rfl) (Nat.le_of_ble_eq_true rfl) (fun _ _ q => q.elim) (fun q Ex h' hx => ?_)
  exact r_xout E P (fun x hx => by cases hx) hx

set_option maxHeartbeats 4000000 in
theorem ct2_X10_number (G : fmG) (hl : (fmLn G).stackTraces = false) (h : fmHp) {x far qu d pa sb : Nat} {fl re de : Int32} {sv : Value} (hC : CC G h) (hx : DkO h x far qu d pa sb fl re de sv) (p a : Nat) (hp : h p = some (true, .inr (.inl (8, [.int (nI a), .ref x])))) (v len : Nat) (T : Nat → Int32) (hS : SBt h sb v len T) (hlen : len ≤ 60) (hch : ∀ i, i < len → ∃ k, k < 65536 ∧ T i = nI k) (ha : a ≤ 1000) (hs : pSee T len a false (nI 48) (nI 57) = true) (hs2 : pSee T len (a + 1) false (nI 48) (nI 57) = true) : Ct G yX10_number (ws_ yX10_number cX10_number 2 (some .int)) { frames := 6, cells := 0, slots := 0, locals := 132 } [.ref p] h (fmRet (some (.int (nI 10 * (T a - nI 48) + T (a + 1) - nI 48))) (fmUp h p (true, .inr (.inl (8, [.int (nI (a + 2)), .ref x]))))) fmNo := by
  refine Ct.of hl (by decide +kernel) (Nat.le_of_ble_eq_true rfl) (fun Γ E P => ?_)
  obtain ⟨u, ml, cap, bf, hsb, hv, hrr⟩ := id hS
  have hpx : p ≠ x := fun z => by have hx0 : h x = some (true, .inr (.inl (1, [.ref far, .ref qu, .ref d, .ref pa, .ref sb, .int fl, .int re, .int de, sv]))) := hx; rw [z, hx0] at hp; cases hp
  have hps : p ≠ sb := fun z => by rw [z, hsb] at hp; cases hp
  have hpv : p ≠ v := fun z => by rw [z, hv] at hp; cases hp
  refine r_aload_n E dX10_number_0 rfl ?_
  refine r_bipush E (nI 48) dX10_number_1 (by decide) ?_
  refine r_bipush E (nI 57) dX10_number_3 (by decide) ?_
  have hal : a < len := by
    have z := hs
    unfold pSee at z
    rw [Bool.not_false, Bool.true_and, Bool.and_eq_true] at z
    exact of_decide_eq_true z.1
  refine r_callV1 (v1 := .int (T a)) E (ctT_X10_take G hl h hC hx p a hp v len T hS hlen hch (by omega) (nI 48) (nI 57) hs) mX10_take q1591 q1593 qs29 (fun H a1 => fm_rc (ci := 8) (C := RX10) (T := TX10) (N := 2) a1 rfl E.v hp) rfl rfl (Nat.le_of_ble_eq_true rfl) (Nat.le_of_ble_eq_true rfl) (Nat.le_of_ble_eq_true rfl) dX10_number_5 0 0 (Nat.le_of_ble_eq_true rfl) (Nat.le_of_ble_eq_true rfl) ?_
  have hx1 := (fmUp_n (e := (true, .inr (.inl (8, [.int (nI (a + 1)), .ref x])))) (fun z => hpx z.symm)).trans hx
  have hS1 : SBt (fmUp h p (true, .inr (.inl (8, [.int (nI (a + 1)), .ref x])))) sb v len T := hS.kept (fun z hz => (fmUp_n (fun z => hps z.symm)).trans hz) (fun z hz => (fmUp_n (fun z => hpv z.symm)).trans hz)
  have hC1 : CC G (fmUp h p (true, .inr (.inl (8, [.int (nI (a + 1)), .ref x])))) := hC.kept (fun q z hq => (fmUp_n (fun z => by rw [z, hp] at hq; cases hq)).trans hq)
  refine r_bipush E (nI 48) dX10_number_8 (by decide) ?_
  refine r_isub E dX10_number_10 ?_
  refine r_istore_n E [some (.ref p), some (.int ((T a) - (nI 48)))] dX10_number_11 rfl rfl ?_
  refine r_aload_n E dX10_number_12 rfl ?_
  refine r_bipush E (nI 48) dX10_number_13 (by decide) ?_
  refine r_bipush E (nI 57) dX10_number_15 (by decide) ?_
  refine r_callV1 (v1 := .int (bI (pSee T len (a + 1) false (nI 48) (nI 57)))) E (ct_X10_isAt G hl (fmUp h p (true, .inr (.inl (8, [.int (nI (a + 1)), .ref x])))) hC1 hx1 p (a + 1) fmUp_s v len T hS1 hlen hch (by omega) (nI 48) (nI 57)) mX10_isAt q1595 q1597 qs30 (fun H a1 => fm_rc (ci := 8) (C := RX10) (T := TX10) (N := 2) a1 rfl E.v fmUp_s) rfl rfl (Nat.le_of_ble_eq_true rfl) (Nat.le_of_ble_eq_true rfl) (Nat.le_of_ble_eq_true rfl) dX10_number_17 0 0 (Nat.le_of_ble_eq_true rfl) (Nat.le_of_ble_eq_true rfl) ?_
  refine r_ifB_eq (b := pSee T len (a + 1) false (nI 48) (nI 57)) (tgt := 42) E dX10_number_20 (by decide) (fun c1 => ?_) (fun c1 => ?_)
  · rw [hs2] at c1; cases c1
  · refine r_bipush E (nI 10) dX10_number_23 (by decide) ?_
    refine r_iload_n E dX10_number_25 rfl ?_
    refine r_imul E dX10_number_26 ?_
    refine r_aload_n E dX10_number_27 rfl ?_
    refine r_bipush E (nI 48) dX10_number_28 (by decide) ?_
    refine r_bipush E (nI 57) dX10_number_30 (by decide) ?_
    refine r_callV1 (v1 := .int (T (a + 1))) E (ctT_X10_take G hl (fmUp h p (true, .inr (.inl (8, [.int (nI (a + 1)), .ref x])))) hC1 hx1 p (a + 1) fmUp_s v len T hS1 hlen hch (by omega) (nI 48) (nI 57) hs2) mX10_take q1591 q1593 qs29 (fun H a1 => fm_rc (ci := 8) (C := RX10) (T := TX10) (N := 2) a1 rfl E.v fmUp_s) rfl rfl (Nat.le_of_ble_eq_true rfl) (Nat.le_of_ble_eq_true rfl) (Nat.le_of_ble_eq_true rfl) dX10_number_32 0 0 (Nat.le_of_ble_eq_true rfl) (Nat.le_of_ble_eq_true rfl) ?_
    refine r_hp (h' := fmUp h p (true, .inr (.inl (8, [.int (nI (a + 2)), .ref x])))) (fmUp_uu _ _ _ _) ?_
    have hx2 := (fmUp_n (e := (true, .inr (.inl (8, [.int (nI (a + 2)), .ref x])))) (fun z => hpx z.symm)).trans hx
    have hS2 : SBt (fmUp h p (true, .inr (.inl (8, [.int (nI (a + 2)), .ref x])))) sb v len T := hS.kept (fun z hz => (fmUp_n (fun z => hps z.symm)).trans hz) (fun z hz => (fmUp_n (fun z => hpv z.symm)).trans hz)
    have hC2 : CC G (fmUp h p (true, .inr (.inl (8, [.int (nI (a + 2)), .ref x])))) := hC.kept (fun q z hq => (fmUp_n (fun z => by rw [z, hp] at hq; cases hq)).trans hq)
    refine r_iadd E dX10_number_35 ?_
    refine r_bipush E (nI 48) dX10_number_36 (by decide) ?_
    refine r_isub E dX10_number_38 ?_
    refine r_goto (tgt := 43) E dX10_number_39 (by decide) ?_
    exact r_ireturn E P rfl dX10_number_43 ⟨rfl, rfl⟩

set_option maxHeartbeats 4000000 in
theorem ct1_X10_number (G : fmG) (hl : (fmLn G).stackTraces = false) (h : fmHp) {x far qu d pa sb : Nat} {fl re de : Int32} {sv : Value} (hC : CC G h) (hx : DkO h x far qu d pa sb fl re de sv) (p a : Nat) (hp : h p = some (true, .inr (.inl (8, [.int (nI a), .ref x])))) (v len : Nat) (T : Nat → Int32) (hS : SBt h sb v len T) (hlen : len ≤ 60) (hch : ∀ i, i < len → ∃ k, k < 65536 ∧ T i = nI k) (ha : a ≤ 1000) (hs : pSee T len a false (nI 48) (nI 57) = true) (hs2 : pSee T len (a + 1) false (nI 48) (nI 57) = false) : Ct G yX10_number (ws_ yX10_number cX10_number 2 (some .int)) { frames := 6, cells := 0, slots := 0, locals := 132 } [.ref p] h (fmRet (some (.int (T a - nI 48))) (fmUp h p (true, .inr (.inl (8, [.int (nI (a + 1)), .ref x]))))) fmNo := by
  refine Ct.of hl (by decide +kernel) (Nat.le_of_ble_eq_true rfl) (fun Γ E P => ?_)
  obtain ⟨u, ml, cap, bf, hsb, hv, hrr⟩ := id hS
  have hpx : p ≠ x := fun z => by have hx0 : h x = some (true, .inr (.inl (1, [.ref far, .ref qu, .ref d, .ref pa, .ref sb, .int fl, .int re, .int de, sv]))) := hx; rw [z, hx0] at hp; cases hp
  have hps : p ≠ sb := fun z => by rw [z, hsb] at hp; cases hp
  have hpv : p ≠ v := fun z => by rw [z, hv] at hp; cases hp
  refine r_aload_n E dX10_number_0 rfl ?_
  refine r_bipush E (nI 48) dX10_number_1 (by decide) ?_
  refine r_bipush E (nI 57) dX10_number_3 (by decide) ?_
  have hal : a < len := by
    have z := hs
    unfold pSee at z
    rw [Bool.not_false, Bool.true_and, Bool.and_eq_true] at z
    exact of_decide_eq_true z.1
  refine r_callV1 (v1 := .int (T a)) E (ctT_X10_take G hl h hC hx p a hp v len T hS hlen hch (by omega) (nI 48) (nI 57) hs) mX10_take q1591 q1593 qs29 (fun H a1 => fm_rc (ci := 8) (C := RX10) (T := TX10) (N := 2) a1 rfl E.v hp) rfl rfl (Nat.le_of_ble_eq_true rfl) (Nat.le_of_ble_eq_true rfl) (Nat.le_of_ble_eq_true rfl) dX10_number_5 0 0 (Nat.le_of_ble_eq_true rfl) (Nat.le_of_ble_eq_true rfl) ?_
  have hx1 := (fmUp_n (e := (true, .inr (.inl (8, [.int (nI (a + 1)), .ref x])))) (fun z => hpx z.symm)).trans hx
  have hS1 : SBt (fmUp h p (true, .inr (.inl (8, [.int (nI (a + 1)), .ref x])))) sb v len T := hS.kept (fun z hz => (fmUp_n (fun z => hps z.symm)).trans hz) (fun z hz => (fmUp_n (fun z => hpv z.symm)).trans hz)
  have hC1 : CC G (fmUp h p (true, .inr (.inl (8, [.int (nI (a + 1)), .ref x])))) := hC.kept (fun q z hq => (fmUp_n (fun z => by rw [z, hp] at hq; cases hq)).trans hq)
  refine r_bipush E (nI 48) dX10_number_8 (by decide) ?_
  refine r_isub E dX10_number_10 ?_
  refine r_istore_n E [some (.ref p), some (.int ((T a) - (nI 48)))] dX10_number_11 rfl rfl ?_
  refine r_aload_n E dX10_number_12 rfl ?_
  refine r_bipush E (nI 48) dX10_number_13 (by decide) ?_
  refine r_bipush E (nI 57) dX10_number_15 (by decide) ?_
  refine r_callV1 (v1 := .int (bI (pSee T len (a + 1) false (nI 48) (nI 57)))) E (ct_X10_isAt G hl (fmUp h p (true, .inr (.inl (8, [.int (nI (a + 1)), .ref x])))) hC1 hx1 p (a + 1) fmUp_s v len T hS1 hlen hch (by omega) (nI 48) (nI 57)) mX10_isAt q1595 q1597 qs30 (fun H a1 => fm_rc (ci := 8) (C := RX10) (T := TX10) (N := 2) a1 rfl E.v fmUp_s) rfl rfl (Nat.le_of_ble_eq_true rfl) (Nat.le_of_ble_eq_true rfl) (Nat.le_of_ble_eq_true rfl) dX10_number_17 0 0 (Nat.le_of_ble_eq_true rfl) (Nat.le_of_ble_eq_true rfl) ?_
  refine r_ifB_eq (b := pSee T len (a + 1) false (nI 48) (nI 57)) (tgt := 42) E dX10_number_20 (by decide) (fun c1 => ?_) (fun c1 => ?_)
  · refine r_iload_n E dX10_number_42 rfl ?_
    exact r_ireturn E P rfl dX10_number_43 ⟨rfl, rfl⟩
  · rw [hs2] at c1; cases c1

set_option maxHeartbeats 4000000 in
theorem ct_X12_init (G : fmG) (hl : (fmLn G).stackTraces = false) (h : fmHp) (c k a : Nat) (hc : h c = some (true, .inr (.inl (9, [.null, .null])))) : Ct G yX12_init (ws_ yX12_init cX12_init 3 none) { frames := 1, cells := 0, slots := 0, locals := 40 } [.ref c, .ref (fmAd G k), .ref a] h (fmRet none (fmUp h c (true, .inr (.inl (9, [.ref (fmAd G k), .ref a]))))) fmNo := by
  refine Ct.of hl (by decide +kernel) (Nat.le_of_ble_eq_true rfl) (fun Γ E P => ?_)
  refine r_aload_n E dX12_init_0 rfl ?_
  refine r_objInit E q1629 q134 q135 dX12_init_1 (Nat.le_of_ble_eq_true rfl) (Nat.le_of_ble_eq_true rfl) ?_
  refine r_aload_n E dX12_init_4 rfl ?_
  refine r_aload_n E dX12_init_5 rfl ?_
  refine r_putfF E cl_X12 0 (by decide) rfl rfl rfl q1630 (fun _ z => z) hc (Nat.le_of_ble_eq_true rfl) rfl rfl dX12_init_6 ?_
  refine r_hp (h' := fmUp h c (true, .inr (.inl (9, [.ref (fmAd G k), .null])))) (rfl) ?_
  refine r_aload_n E dX12_init_9 rfl ?_
  refine r_aload_n E dX12_init_10 rfl ?_
  refine r_putfF E cl_X12 1 (by decide) rfl rfl rfl q1631 (fun _ z => z) fmUp_s (Nat.le_of_ble_eq_true rfl) rfl rfl dX12_init_11 ?_
  refine r_hp (h' := fmUp (fmUp h c (true, .inr (.inl (9, [.ref (fmAd G k), .null])))) c (true, .inr (.inl (9, [.ref (fmAd G k), .ref a])))) (rfl) ?_
  exact r_return E P rfl dX12_init_14 ⟨rfl, fmUp_uu _ _ _ _⟩

set_option maxHeartbeats 4000000 in
theorem ct_X10_init (G : fmG) (hl : (fmLn G).stackTraces = false) (h : fmHp) (p x : Nat) (hp : h p = some (true, .inr (.inl (8, [.int 0, .null])))) : Ct G yX10_init (ws_ yX10_init cX10_init 2 none) { frames := 1, cells := 0, slots := 0, locals := 40 } [.ref p, .ref x] h (fmRet none (fmUp h p (true, .inr (.inl (8, [.int (nI 0), .ref x]))))) fmNo := by
  refine Ct.of hl (by decide +kernel) (Nat.le_of_ble_eq_true rfl) (fun Γ E P => ?_)
  refine r_aload_n E dX10_init_0 rfl ?_
  refine r_aload_n E dX10_init_1 rfl ?_
  refine r_putfF E cl_X10 1 (by decide) rfl rfl rfl q1489 (fun _ z => z) hp (Nat.le_of_ble_eq_true rfl) rfl rfl dX10_init_2 ?_
  refine r_hp (h' := fmUp h p (true, .inr (.inl (8, [.int 0, .ref x])))) (rfl) ?_
  refine r_aload_n E dX10_init_5 rfl ?_
  refine r_objInit E q1487 q134 q135 dX10_init_6 (Nat.le_of_ble_eq_true rfl) (Nat.le_of_ble_eq_true rfl) ?_
  exact r_return E P rfl dX10_init_9 ⟨rfl, rfl⟩

set_option maxHeartbeats 4000000 in
theorem ct1_X12_done (G : fmG) (hl : (fmLn G).stackTraces = false) (h : fmHp) {h0 : fmHp} {d g sl se pl pe : Nat} {gf sf pf : Nat → Nat} {N : Nat → Int32} {K pk : Nat} (hC0 : CC G h0) (hM : MineAt G h d g sl se pl pe gf sf pf N K pk) (hD : Dr G h0 h d g sl se pl pe) (o a : Nat) (fl : Bool) (f : Nat → Int32) (ha : h a = some (fl, .inl (0, 1, .inl f))) (hR : RV N K pk)  (ho : h o = some (true, .inr (.inl (9, [.ref (fmAd G 2), .ref a])))) : Ct G yX12_done (ws_ yX12_done cX12_done 2 (some .int)) { frames := 8, cells := 2, slots := 9, locals := 176 } [.ref o, .ref d] h (dPost G h0 d g sl pl (aRoof N (f 0))) (dXp h0 (aRoof N (f 0))) := by
  refine Ct.of hl (by decide +kernel) (Nat.le_of_ble_eq_true rfl) (fun Γ E P => ?_)
  have hC : CC G h := hC0.kp hD.1
  obtain ⟨hd, ⟨gq, hg, hgq⟩, hgd, hS, hSh, hP, hPk, hK8, hP6, hsp, hse⟩ := id hM
  obtain ⟨mcS, hsl⟩ := hS.o
  obtain ⟨mcP, hpl⟩ := hP.o
  obtain ⟨hk0, hd0, hg0, hsl0, hpl0, hse0, hpe0⟩ := id hD
  obtain ⟨feS, capS, geS, hseA⟩ := hS.el
  obtain ⟨feP, capP, geP, hpeA⟩ := hP.el
  refine r_aload_n E dX12_done_0 rfl ?_
  refine r_getf E cl_X12 0 (by decide) q1630 ho rfl dX12_done_1 ?_
  refine r_aload_n E dX12_done_4 rfl ?_
  refine r_aload_n E dX12_done_5 rfl ?_
  refine r_getf E cl_X12 1 (by decide) q1631 ho rfl dX12_done_6 ?_
  refine r_callO E (ct_X15_done G hl h hC0 hM hD (fmAd G 2) a fl f ha hR ) mX15_done q658 q657 ⟨⟨by decide, by decide⟩, by decide +kernel⟩ q1823 q725 q724 (fun H a1 => fm_ro (kk := 1) a1 rfl E.v (hC.2.1 1 (by decide))) rfl rfl (Nat.le_of_ble_eq_true rfl) (Nat.le_of_ble_eq_true rfl) (Nat.le_of_ble_eq_true rfl) dX12_done_9 0 0 (Nat.le_of_ble_eq_true rfl) (Nat.le_of_ble_eq_true rfl) (fun v' h2 q => ?_) (fun q Ex h2 hx2 => r_xout E P (fun x hx => by cases hx) hx2)
  obtain ⟨hr0, rfl, hrest⟩ := q
  exact r_ireturn E P rfl dX12_done_12 ⟨hr0, rfl, hrest⟩

set_option maxHeartbeats 4000000 in
theorem ct2_X12_done (G : fmG) (hl : (fmLn G).stackTraces = false) (h : fmHp) {h0 : fmHp} {d g sl se pl pe : Nat} {gf sf pf : Nat → Nat} {N : Nat → Int32} {K pk : Nat} (hC0 : CC G h0) (hM : MineAt G h d g sl se pl pe gf sf pf N K pk) (hD : Dr G h0 h d g sl se pl pe) (o a : Nat) (fl : Bool) (f : Nat → Int32) (ha : h a = some (fl, .inl (0, 1, .inl f))) (hR : RV N K pk)  (ho : h o = some (true, .inr (.inl (9, [.ref (fmAd G 3), .ref a])))) : Ct G yX12_done (ws_ yX12_done cX12_done 2 (some .int)) { frames := 8, cells := 2, slots := 9, locals := 146 } [.ref o, .ref d] h (dPost G h0 d g sl pl (aProps N (f 0))) (dXp h0 (aProps N (f 0))) := by
  refine Ct.of hl (by decide +kernel) (Nat.le_of_ble_eq_true rfl) (fun Γ E P => ?_)
  have hC : CC G h := hC0.kp hD.1
  obtain ⟨hd, ⟨gq, hg, hgq⟩, hgd, hS, hSh, hP, hPk, hK8, hP6, hsp, hse⟩ := id hM
  obtain ⟨mcS, hsl⟩ := hS.o
  obtain ⟨mcP, hpl⟩ := hP.o
  obtain ⟨hk0, hd0, hg0, hsl0, hpl0, hse0, hpe0⟩ := id hD
  obtain ⟨feS, capS, geS, hseA⟩ := hS.el
  obtain ⟨feP, capP, geP, hpeA⟩ := hP.el
  refine r_aload_n E dX12_done_0 rfl ?_
  refine r_getf E cl_X12 0 (by decide) q1630 ho rfl dX12_done_1 ?_
  refine r_aload_n E dX12_done_4 rfl ?_
  refine r_aload_n E dX12_done_5 rfl ?_
  refine r_getf E cl_X12 1 (by decide) q1631 ho rfl dX12_done_6 ?_
  refine r_callO E (ct_X16_done G hl h hC0 hM hD (fmAd G 3) a fl f ha hR ) mX16_done q658 q657 ⟨⟨by decide, by decide⟩, by decide +kernel⟩ q1823 q739 q738 (fun H a1 => fm_ro (kk := 2) a1 rfl E.v (hC.2.1 2 (by decide))) rfl rfl (Nat.le_of_ble_eq_true rfl) (Nat.le_of_ble_eq_true rfl) (Nat.le_of_ble_eq_true rfl) dX12_done_9 0 0 (Nat.le_of_ble_eq_true rfl) (Nat.le_of_ble_eq_true rfl) (fun v' h2 q => ?_) (fun q Ex h2 hx2 => r_xout E P (fun x hx => by cases hx) hx2)
  obtain ⟨hr0, rfl, hrest⟩ := q
  exact r_ireturn E P rfl dX12_done_12 ⟨hr0, rfl, hrest⟩

set_option maxHeartbeats 4000000 in
theorem ct3_X12_done (G : fmG) (hl : (fmLn G).stackTraces = false) (h : fmHp) {h0 : fmHp} {d g sl se pl pe : Nat} {gf sf pf : Nat → Nat} {N : Nat → Int32} {K pk : Nat} (hC0 : CC G h0) (hM : MineAt G h d g sl se pl pe gf sf pf N K pk) (hD : Dr G h0 h d g sl se pl pe) (o a : Nat) (fl : Bool) (f : Nat → Int32) (ha : h a = some (fl, .inl (0, 1, .inl f))) (hR : RV N K pk)  (ho : h o = some (true, .inr (.inl (9, [.ref (fmAd G 4), .ref a])))) : Ct G yX12_done (ws_ yX12_done cX12_done 2 (some .int)) { frames := 9, cells := 2, slots := 201, locals := 234 } [.ref o, .ref d] h (dPost G h0 d g sl pl (aPick N (f 0) pk)) (dXp h0 (aPick N (f 0) pk)) := by
  refine Ct.of hl (by decide +kernel) (Nat.le_of_ble_eq_true rfl) (fun Γ E P => ?_)
  have hC : CC G h := hC0.kp hD.1
  obtain ⟨hd, ⟨gq, hg, hgq⟩, hgd, hS, hSh, hP, hPk, hK8, hP6, hsp, hse⟩ := id hM
  obtain ⟨mcS, hsl⟩ := hS.o
  obtain ⟨mcP, hpl⟩ := hP.o
  obtain ⟨hk0, hd0, hg0, hsl0, hpl0, hse0, hpe0⟩ := id hD
  obtain ⟨feS, capS, geS, hseA⟩ := hS.el
  obtain ⟨feP, capP, geP, hpeA⟩ := hP.el
  refine r_aload_n E dX12_done_0 rfl ?_
  refine r_getf E cl_X12 0 (by decide) q1630 ho rfl dX12_done_1 ?_
  refine r_aload_n E dX12_done_4 rfl ?_
  refine r_aload_n E dX12_done_5 rfl ?_
  refine r_getf E cl_X12 1 (by decide) q1631 ho rfl dX12_done_6 ?_
  refine r_callO E (ct_X17_done G hl h hC0 hM hD (fmAd G 4) a fl f ha hR ) mX17_done q658 q657 ⟨⟨by decide, by decide⟩, by decide +kernel⟩ q1823 q749 q748 (fun H a1 => fm_ro (kk := 3) a1 rfl E.v (hC.2.1 3 (by decide))) rfl rfl (Nat.le_of_ble_eq_true rfl) (Nat.le_of_ble_eq_true rfl) (Nat.le_of_ble_eq_true rfl) dX12_done_9 0 0 (Nat.le_of_ble_eq_true rfl) (Nat.le_of_ble_eq_true rfl) (fun v' h2 q => ?_) (fun q Ex h2 hx2 => r_xout E P (fun x hx => by cases hx) hx2)
  obtain ⟨hr0, rfl, hrest⟩ := q
  exact r_ireturn E P rfl dX12_done_12 ⟨hr0, rfl, hrest⟩

set_option maxHeartbeats 4000000 in
theorem ct4_X12_done (G : fmG) (hl : (fmLn G).stackTraces = false) (h : fmHp) {h0 : fmHp} {d g sl se pl pe : Nat} {gf sf pf : Nat → Nat} {N : Nat → Int32} {K pk : Nat} (hC0 : CC G h0) (hM : MineAt G h d g sl se pl pe gf sf pf N K pk) (hD : Dr G h0 h d g sl se pl pe) (o a : Nat) (fl : Bool) (f : Nat → Int32) (ha : h a = some (fl, .inl (0, 1, .inl f))) (hR : RV N K pk)  (ho : h o = some (true, .inr (.inl (9, [.ref (fmAd G 5), .ref a])))) : Ct G yX12_done (ws_ yX12_done cX12_done 2 (some .int)) { frames := 9, cells := 3, slots := 205, locals := 236 } [.ref o, .ref d] h (dPost G h0 d g sl pl (aSink N (f 0) K pk)) (dXp h0 (aSink N (f 0) K pk)) := by
  refine Ct.of hl (by decide +kernel) (Nat.le_of_ble_eq_true rfl) (fun Γ E P => ?_)
  have hC : CC G h := hC0.kp hD.1
  obtain ⟨hd, ⟨gq, hg, hgq⟩, hgd, hS, hSh, hP, hPk, hK8, hP6, hsp, hse⟩ := id hM
  obtain ⟨mcS, hsl⟩ := hS.o
  obtain ⟨mcP, hpl⟩ := hP.o
  obtain ⟨hk0, hd0, hg0, hsl0, hpl0, hse0, hpe0⟩ := id hD
  obtain ⟨feS, capS, geS, hseA⟩ := hS.el
  obtain ⟨feP, capP, geP, hpeA⟩ := hP.el
  refine r_aload_n E dX12_done_0 rfl ?_
  refine r_getf E cl_X12 0 (by decide) q1630 ho rfl dX12_done_1 ?_
  refine r_aload_n E dX12_done_4 rfl ?_
  refine r_aload_n E dX12_done_5 rfl ?_
  refine r_getf E cl_X12 1 (by decide) q1631 ho rfl dX12_done_6 ?_
  refine r_callO E (ct_X18_done G hl h hC0 hM hD (fmAd G 5) a fl f ha hR ) mX18_done q658 q657 ⟨⟨by decide, by decide⟩, by decide +kernel⟩ q1823 q780 q779 (fun H a1 => fm_ro (kk := 4) a1 rfl E.v (hC.2.1 4 (by decide))) rfl rfl (Nat.le_of_ble_eq_true rfl) (Nat.le_of_ble_eq_true rfl) (Nat.le_of_ble_eq_true rfl) dX12_done_9 0 0 (Nat.le_of_ble_eq_true rfl) (Nat.le_of_ble_eq_true rfl) (fun v' h2 q => ?_) (fun q Ex h2 hx2 => r_xout E P (fun x hx => by cases hx) hx2)
  obtain ⟨hr0, rfl, hrest⟩ := q
  exact r_ireturn E P rfl dX12_done_12 ⟨hr0, rfl, hrest⟩

set_option maxHeartbeats 4000000 in
theorem ct5_X12_done (G : fmG) (hl : (fmLn G).stackTraces = false) (h : fmHp) {h0 : fmHp} {d g sl se pl pe : Nat} {gf sf pf : Nat → Nat} {N : Nat → Int32} {K pk : Nat} (hC0 : CC G h0) (hM : MineAt G h d g sl se pl pe gf sf pf N K pk) (hD : Dr G h0 h d g sl se pl pe) (o a : Nat) (fl : Bool) (f : Nat → Int32) (ha : h a = some (fl, .inl (0, 3, .inl f))) (hR : RV N K pk)  (ho : h o = some (true, .inr (.inl (9, [.ref (fmAd G 6), .ref a])))) : Ct G yX12_done (ws_ yX12_done cX12_done 2 (some .int)) { frames := 10, cells := 5, slots := 216, locals := 207 } [.ref o, .ref d] h (dPost G h0 d g sl pl (aDig N (f 0) (f 1) (decide (0 < f 2)) K pk)) (dXp h0 (aDig N (f 0) (f 1) (decide (0 < f 2)) K pk)) := by
  refine Ct.of hl (by decide +kernel) (Nat.le_of_ble_eq_true rfl) (fun Γ E P => ?_)
  have hC : CC G h := hC0.kp hD.1
  obtain ⟨hd, ⟨gq, hg, hgq⟩, hgd, hS, hSh, hP, hPk, hK8, hP6, hsp, hse⟩ := id hM
  obtain ⟨mcS, hsl⟩ := hS.o
  obtain ⟨mcP, hpl⟩ := hP.o
  obtain ⟨hk0, hd0, hg0, hsl0, hpl0, hse0, hpe0⟩ := id hD
  obtain ⟨feS, capS, geS, hseA⟩ := hS.el
  obtain ⟨feP, capP, geP, hpeA⟩ := hP.el
  refine r_aload_n E dX12_done_0 rfl ?_
  refine r_getf E cl_X12 0 (by decide) q1630 ho rfl dX12_done_1 ?_
  refine r_aload_n E dX12_done_4 rfl ?_
  refine r_aload_n E dX12_done_5 rfl ?_
  refine r_getf E cl_X12 1 (by decide) q1631 ho rfl dX12_done_6 ?_
  refine r_callO E (ct_X19_done G hl h hC0 hM hD (fmAd G 6) a fl f ha hR ) mX19_done q658 q657 ⟨⟨by decide, by decide⟩, by decide +kernel⟩ q1823 q902 q901 (fun H a1 => fm_ro (kk := 5) a1 rfl E.v (hC.2.1 5 (by decide))) rfl rfl (Nat.le_of_ble_eq_true rfl) (Nat.le_of_ble_eq_true rfl) (Nat.le_of_ble_eq_true rfl) dX12_done_9 0 0 (Nat.le_of_ble_eq_true rfl) (Nat.le_of_ble_eq_true rfl) (fun v' h2 q => ?_) (fun q Ex h2 hx2 => r_xout E P (fun x hx => by cases hx) hx2)
  obtain ⟨hr0, rfl, hrest⟩ := q
  exact r_ireturn E P rfl dX12_done_12 ⟨hr0, rfl, hrest⟩

set_option maxHeartbeats 4000000 in
theorem ct6_X12_done (G : fmG) (hl : (fmLn G).stackTraces = false) (h : fmHp) {h0 : fmHp} {d g sl se pl pe : Nat} {gf sf pf : Nat → Nat} {N : Nat → Int32} {K pk : Nat} (hC0 : CC G h0) (hM : MineAt G h d g sl se pl pe gf sf pf N K pk) (hD : Dr G h0 h d g sl se pl pe) (o a : Nat) (fl : Bool) (f : Nat → Int32) (ha : h a = some (fl, .inl (0, 1, .inl f))) (hR : RV N K pk)  (ho : h o = some (true, .inr (.inl (9, [.ref (fmAd G 7), .ref a])))) : Ct G yX12_done (ws_ yX12_done cX12_done 2 (some .int)) { frames := 9, cells := 1, slots := 8, locals := 178 } [.ref o, .ref d] h (dPost G h0 d g sl pl (aProp N (f 0))) (dXp h0 (aProp N (f 0))) := by
  refine Ct.of hl (by decide +kernel) (Nat.le_of_ble_eq_true rfl) (fun Γ E P => ?_)
  have hC : CC G h := hC0.kp hD.1
  obtain ⟨hd, ⟨gq, hg, hgq⟩, hgd, hS, hSh, hP, hPk, hK8, hP6, hsp, hse⟩ := id hM
  obtain ⟨mcS, hsl⟩ := hS.o
  obtain ⟨mcP, hpl⟩ := hP.o
  obtain ⟨hk0, hd0, hg0, hsl0, hpl0, hse0, hpe0⟩ := id hD
  obtain ⟨feS, capS, geS, hseA⟩ := hS.el
  obtain ⟨feP, capP, geP, hpeA⟩ := hP.el
  refine r_aload_n E dX12_done_0 rfl ?_
  refine r_getf E cl_X12 0 (by decide) q1630 ho rfl dX12_done_1 ?_
  refine r_aload_n E dX12_done_4 rfl ?_
  refine r_aload_n E dX12_done_5 rfl ?_
  refine r_getf E cl_X12 1 (by decide) q1631 ho rfl dX12_done_6 ?_
  refine r_callO E (ct_X20_done G hl h hC0 hM hD (fmAd G 7) a fl f ha hR ) mX20_done q658 q657 ⟨⟨by decide, by decide⟩, by decide +kernel⟩ q1823 q926 q925 (fun H a1 => fm_ro (kk := 6) a1 rfl E.v (hC.2.1 6 (by decide))) rfl rfl (Nat.le_of_ble_eq_true rfl) (Nat.le_of_ble_eq_true rfl) (Nat.le_of_ble_eq_true rfl) dX12_done_9 0 0 (Nat.le_of_ble_eq_true rfl) (Nat.le_of_ble_eq_true rfl) (fun v' h2 q => ?_) (fun q Ex h2 hx2 => r_xout E P (fun x hx => by cases hx) hx2)
  obtain ⟨hr0, rfl, hrest⟩ := q
  exact r_ireturn E P rfl dX12_done_12 ⟨hr0, rfl, hrest⟩

set_option maxHeartbeats 4000000 in
theorem ct7_X12_done (G : fmG) (hl : (fmLn G).stackTraces = false) (h : fmHp) {h0 : fmHp} {d g sl se pl pe : Nat} {gf sf pf : Nat → Nat} {N : Nat → Int32} {K pk : Nat} (hC0 : CC G h0) (hM : MineAt G h d g sl se pl pe gf sf pf N K pk) (hD : Dr G h0 h d g sl se pl pe) (o a : Nat) (fl : Bool) (f : Nat → Int32) (ha : h a = some (fl, .inl (0, 1, .inl f))) (hR : RV N K pk)  (ho : h o = some (true, .inr (.inl (9, [.ref (fmAd G 8), .ref a])))) : Ct G yX12_done (ws_ yX12_done cX12_done 2 (some .int)) { frames := 9, cells := 1, slots := 8, locals := 178 } [.ref o, .ref d] h (dPost G h0 d g sl pl (aUnprop N (f 0))) (dXp h0 (aUnprop N (f 0))) := by
  refine Ct.of hl (by decide +kernel) (Nat.le_of_ble_eq_true rfl) (fun Γ E P => ?_)
  have hC : CC G h := hC0.kp hD.1
  obtain ⟨hd, ⟨gq, hg, hgq⟩, hgd, hS, hSh, hP, hPk, hK8, hP6, hsp, hse⟩ := id hM
  obtain ⟨mcS, hsl⟩ := hS.o
  obtain ⟨mcP, hpl⟩ := hP.o
  obtain ⟨hk0, hd0, hg0, hsl0, hpl0, hse0, hpe0⟩ := id hD
  obtain ⟨feS, capS, geS, hseA⟩ := hS.el
  obtain ⟨feP, capP, geP, hpeA⟩ := hP.el
  refine r_aload_n E dX12_done_0 rfl ?_
  refine r_getf E cl_X12 0 (by decide) q1630 ho rfl dX12_done_1 ?_
  refine r_aload_n E dX12_done_4 rfl ?_
  refine r_aload_n E dX12_done_5 rfl ?_
  refine r_getf E cl_X12 1 (by decide) q1631 ho rfl dX12_done_6 ?_
  refine r_callO E (ct_X21_done G hl h hC0 hM hD (fmAd G 8) a fl f ha hR ) mX21_done q658 q657 ⟨⟨by decide, by decide⟩, by decide +kernel⟩ q1823 q938 q937 (fun H a1 => fm_ro (kk := 7) a1 rfl E.v (hC.2.1 7 (by decide))) rfl rfl (Nat.le_of_ble_eq_true rfl) (Nat.le_of_ble_eq_true rfl) (Nat.le_of_ble_eq_true rfl) dX12_done_9 0 0 (Nat.le_of_ble_eq_true rfl) (Nat.le_of_ble_eq_true rfl) (fun v' h2 q => ?_) (fun q Ex h2 hx2 => r_xout E P (fun x hx => by cases hx) hx2)
  obtain ⟨hr0, rfl, hrest⟩ := q
  exact r_ireturn E P rfl dX12_done_12 ⟨hr0, rfl, hrest⟩

set_option maxHeartbeats 4000000 in
theorem ct8_X12_done (G : fmG) (hl : (fmLn G).stackTraces = false) (h : fmHp) {h0 : fmHp} {d g sl se pl pe : Nat} {gf sf pf : Nat → Nat} {N : Nat → Int32} {K pk : Nat} (hC0 : CC G h0) (hM : MineAt G h d g sl se pl pe gf sf pf N K pk) (hD : Dr G h0 h d g sl se pl pe) (o a : Nat) (fl : Bool) (f : Nat → Int32) (ha : h a = some (fl, .inl (0, 1, .inl f))) (hR : RV N K pk)  (ho : h o = some (true, .inr (.inl (9, [.ref (fmAd G 9), .ref a])))) : Ct G yX12_done (ws_ yX12_done cX12_done 2 (some .int)) { frames := 10, cells := 65, slots := 67, locals := 190 } [.ref o, .ref d] h (dPost G h0 d g sl pl (aClose N (f 0) K)) (dXp h0 (aClose N (f 0) K)) := by
  refine Ct.of hl (by decide +kernel) (Nat.le_of_ble_eq_true rfl) (fun Γ E P => ?_)
  have hC : CC G h := hC0.kp hD.1
  obtain ⟨hd, ⟨gq, hg, hgq⟩, hgd, hS, hSh, hP, hPk, hK8, hP6, hsp, hse⟩ := id hM
  obtain ⟨mcS, hsl⟩ := hS.o
  obtain ⟨mcP, hpl⟩ := hP.o
  obtain ⟨hk0, hd0, hg0, hsl0, hpl0, hse0, hpe0⟩ := id hD
  obtain ⟨feS, capS, geS, hseA⟩ := hS.el
  obtain ⟨feP, capP, geP, hpeA⟩ := hP.el
  refine r_aload_n E dX12_done_0 rfl ?_
  refine r_getf E cl_X12 0 (by decide) q1630 ho rfl dX12_done_1 ?_
  refine r_aload_n E dX12_done_4 rfl ?_
  refine r_aload_n E dX12_done_5 rfl ?_
  refine r_getf E cl_X12 1 (by decide) q1631 ho rfl dX12_done_6 ?_
  refine r_callO E (ct_X22_done G hl h hC0 hM hD (fmAd G 9) a fl f ha hR ) mX22_done q658 q657 ⟨⟨by decide, by decide⟩, by decide +kernel⟩ q1823 q947 q946 (fun H a1 => fm_ro (kk := 8) a1 rfl E.v (hC.2.1 8 (by decide))) rfl rfl (Nat.le_of_ble_eq_true rfl) (Nat.le_of_ble_eq_true rfl) (Nat.le_of_ble_eq_true rfl) dX12_done_9 0 0 (Nat.le_of_ble_eq_true rfl) (Nat.le_of_ble_eq_true rfl) (fun v' h2 q => ?_) (fun q Ex h2 hx2 => r_xout E P (fun x hx => by cases hx) hx2)
  obtain ⟨hr0, rfl, hrest⟩ := q
  exact r_ireturn E P rfl dX12_done_12 ⟨hr0, rfl, hrest⟩

