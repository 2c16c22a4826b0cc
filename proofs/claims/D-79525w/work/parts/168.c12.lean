set_option maxHeartbeats 4000000 in
theorem ct_X2_prop (G : fmG) (hl : (fmLn G).stackTraces = false) (h : fmHp) {h0 : fmHp} {d g sl se pl pe : Nat} {gf sf pf : Nat → Nat} {N : Nat → Int32} {K pk : Nat} (hC0 : CC G h0) (hM : MineAt G h d g sl se pl pe gf sf pf N K pk) (hD : Dr G h0 h d g sl se pl pe) (c : Nat) (hc : c < 64) (hR : RV N K pk) : Ct G yX2_prop (ws_ yX2_prop cX2_prop 3 (some .int)) { frames := 5, cells := 1, slots := 8, locals := 134 } [.ref d, .int (nI c)] h (dPost G h0 d g sl pl (aProp N (nI c))) (dXp h0 (aProp N (nI c))) := by
  refine Ct.of hl (by decide +kernel) (Nat.le_of_ble_eq_true rfl) (fun Γ E P => ?_)
  have hC : CC G h := hC0.kp hD.1
  obtain ⟨hd, ⟨gq, hg, hgq⟩, hgd, hS, hSh, hP, hPk, hK8, hP6, hsp, hse⟩ := id hM
  obtain ⟨mcS, hsl⟩ := hS.o
  obtain ⟨mcP, hpl⟩ := hP.o
  obtain ⟨hk0, hd0, hg0, hsl0, hpl0, hse0, hpe0⟩ := id hD
  obtain ⟨feS, capS, geS, hseA⟩ := hS.el
  obtain ⟨feP, capP, geP, hpeA⟩ := hP.el
  have hg1 : (!sBetween (nI c) (nI 0) (nI 63)) = false := by rw [sCell_n hc]; rfl
  have hcn : cN (nI c) = c := cN_n (by omega)
  obtain ⟨p, hp9, hp⟩ := hR.2.2.2.2.2.2.1
  refine r_aload_n E dX2_prop_0 rfl ?_
  refine r_iload_n E dX2_prop_1 rfl ?_
  refine r_iconst E (nI 0) dX2_prop_2 (by decide) ?_
  by_cases h1 : N c = nI 1 ∧ N (256 + c) = bI false
  · have hco : h (gf c) = some (true, .inr (.inl (4, [.int (N (192 + c)), .int (bI false)]))) := by
      rcases hgd c hc with ⟨q1, _⟩ | ⟨p, q1, q2, q4⟩ | ⟨q1, _⟩
      · rw [h1.1] at q1; exact absurd q1 (by decide)
      · rw [h1.2] at q2; have e9 := bI_inj q2; subst e9; exact q4
      · rw [h1.1] at q1; exact absurd q1 (by decide)
    refine r_callV1 (v1 := .ref (gf c)) E (ctT_X2_open_2 G hl (h) hC hM c false hc h1.1 h1.2) mX2_open_2 q933 q935 qs12 (fun H a1 => fm_rc (ci := 2) (C := RX2) (T := TX2) (N := 7) a1 rfl E.v hd) rfl rfl (Nat.le_of_ble_eq_true rfl) (Nat.le_of_ble_eq_true rfl) (Nat.le_of_ble_eq_true rfl) dX2_prop_3 1 8 (Nat.le_of_ble_eq_true rfl) (Nat.le_of_ble_eq_true rfl) ?_
    refine r_astore_n E [some (.ref d), some (.int (nI c)), some (.ref (gf c))] dX2_prop_6 rfl rfl ?_
    refine r_aload_n E dX2_prop_7 rfl ?_
    refine r_getf E cl_X2 4 (by decide) q193 hd rfl dX2_prop_8 ?_
    refine r_top (v' := .int (nI p)) (congrArg Value.int hp) ?_
    refine r_ifN_le (tgt := 18) E dX2_prop_11 (by decide) (by omega) (fun c1 => ?_) (fun c1 => ?_)
    · have hr : aProp N (nI c) = aRef (nI 7) (nI 0) := by unfold aProp; rw [aG_f hg1, aG_f (by rw [hcn, sBare_t h1.1 h1.2]; rfl), aG_t (decide_eq_true (by rw [hp, c1]))]
      refine r_iconst E (nI 0) dX2_prop_18 (by decide) ?_
      refine r_bipush E (nI 7) dX2_prop_19 (by decide) ?_
      refine r_iconst E (nI 0) dX2_prop_21 (by decide) ?_
      refine r_callSN E (ctF_X1_allow G hl h (nI 7) (nI 0)) mX1_allow q78 q734 q735 rfl rfl (Nat.le_of_ble_eq_true rfl) (Nat.le_of_ble_eq_true rfl) (Nat.le_of_ble_eq_true rfl) dX2_prop_22 0 0 (Nat.le_of_ble_eq_true rfl) (Nat.le_of_ble_eq_true rfl) (fun _ _ q => q.elim) (fun q Ex h' hx => ?_)
      exact r_xout E P (fun x hx => by cases hx) (dXp.ref hk0 (hr) hx)
    · have hr : aProp N (nI c) = aDon (sPropRow N c 352) (sPropRow N c) := by unfold aProp; rw [aG_f hg1, aG_f (by rw [hcn, sBare_t h1.1 h1.2]; rfl), aG_f (decide_eq_false (fun z => by rw [hp] at z; have := nI_z (by omega) (z.trans nI_0); omega)), hcn]
      refine r_iconst E (nI 1) dX2_prop_14 (by decide) ?_
      refine r_goto (tgt := 19) E dX2_prop_15 (by decide) ?_
      refine r_bipush E (nI 7) dX2_prop_19 (by decide) ?_
      refine r_iconst E (nI 0) dX2_prop_21 (by decide) ?_
      refine r_callSN0 E (ctT_X1_allow G hl (h) (nI 7) (nI 0)) mX1_allow q78 q734 q735 rfl rfl (Nat.le_of_ble_eq_true rfl) (Nat.le_of_ble_eq_true rfl) (Nat.le_of_ble_eq_true rfl) dX2_prop_22 1 8 (Nat.le_of_ble_eq_true rfl) (Nat.le_of_ble_eq_true rfl) ?_
      refine r_aload_n E dX2_prop_25 rfl ?_
      refine r_getf E cl_X2 0 (by decide) q185 hd rfl dX2_prop_26 ?_
      refine r_iload_n E dX2_prop_29 rfl ?_
      refine r_new E cl_X6 [.int 0, .int 0] q803 q804 q108 (by decide) 0 0 (Nat.le_of_ble_eq_true rfl) (Nat.le_of_ble_eq_true rfl) dX2_prop_30 (fun a2 ha2 ka2 => ?_)
      refine r_dup E dX2_prop_33 rfl ?_
      refine r_aload_n E dX2_prop_34 rfl ?_
      refine r_getfN E cl_X6 0 (by decide) q811 (fmUp_of hco ha2) rfl dX2_prop_35 ?_
      refine r_iconst E (nI 1) dX2_prop_38 (by decide) ?_
      refine r_callI0 E (ct_X6_init G hl (fmUp h a2 (true, .inr (.inl (4, [.int 0, .int 0])))) a2 (N (192 + c)) true fmUp_s) mX6_init rfl q805 q806 rfl rfl (Nat.le_of_ble_eq_true rfl) (Nat.le_of_ble_eq_true rfl) (Nat.le_of_ble_eq_true rfl) dX2_prop_39 0 0 (Nat.le_of_ble_eq_true rfl) (Nat.le_of_ble_eq_true rfl) ?_
      refine r_hp (h' := fmUp h a2 (true, .inr (.inl (4, [.int (N (192 + c)), .int (bI true)])))) (fmUp_uu _ _ _ _) ?_
      have hMa := hM.kp (Kp.up (e := (true, .inr (.inl (4, [.int (N (192 + c)), .int (bI true)])))) ha2)
      have hga := fmUp_of (e := (true, .inr (.inl (4, [.int (N (192 + c)), .int (bI true)])))) hg ha2
      have hda := fmUp_of (e := (true, .inr (.inl (4, [.int (N (192 + c)), .int (bI true)])))) hd ha2
      refine r_aast E (t := 7) (Ev := "FlintMine$Ground") rfl (fun H a1 => fm_rc a1 cl_X6.1 E.v fmUp_s) q322 hga hc (by decide) dX2_prop_42 ?_
      have hM2 := hMa.setg hga hgq hc (a := a2) (N' := upd N (256 + c) (nI 1)) (Or.inr (Or.inl ⟨true, by rw [upd_ne' (by omega)]; exact h1.1, upd_eq' rfl, by rw [upd_ne' (by omega)]; exact fmUp_s⟩)) (fun q q1 q2 q3 q4 q5 => upd_ne' q5)
      refine r_aload_n E dX2_prop_43 rfl ?_
      refine r_dup E dX2_prop_44 rfl ?_
      refine r_getf E cl_X2 4 (by decide) q193 ((fmUp_n (fun z => by rw [z, hga] at hda; cases hda)).trans hda) rfl dX2_prop_45 ?_
      refine r_top (v' := .int (nI p)) (congrArg Value.int hp) ?_
      refine r_iconst E (nI 1) dX2_prop_48 (by decide) ?_
      refine r_isubN E dX2_prop_49 (by omega) ?_
      refine r_putf E cl_X2 4 (by decide) rfl q193 (fun _ z => z) ((fmUp_n (fun z => by rw [z, hga] at hda; cases hda)).trans hda) (Nat.le_of_ble_eq_true rfl) rfl rfl dX2_prop_50 ?_
      refine r_hp (h' := fmUp (fmUp (fmUp h a2 (true, .inr (.inl (4, [.int (N (192 + c)), .int (bI true)])))) g (true, .inl (7, 64, .inr (.inr (.inr (.inr (va_up gq c (some a2)))))))) d (true, .inr (.inl (2, [.ref g, .ref sl, .ref pl, .int (N 355), .int (nI (p - 1)), .int (N 353), .int (N 354)])))) (rfl) ?_
      refine r_aload_n E dX2_prop_53 rfl ?_
      refine r_getf E cl_X2 4 (by decide) q193 fmUp_s rfl dX2_prop_54 ?_
      have e352 : sPropRow N c 352 = nI (p - 1) := by show upd (upd N (256 + c) (nI 1)) 352 ((upd N (256 + c) (nI 1)) 352 - nI 1) 352 = _; rw [upd_eq' rfl, upd_ne' (by omega), hp, nI_subI (by omega)]
      have hM3 := hM2.setd (N' := sPropRow N c) (fun q hq => upd_ne' (by omega))
      have eo : ∀ q, 353 ≤ q → sPropRow N c q = N q := fun q hq => by show upd (upd N (256 + c) (nI 1)) 352 _ q = _; rw [upd_ne' (by omega), upd_ne' (by omega)]
      rw [e352, eo 355 (by omega), eo 353 (by omega), eo 354 (by omega)] at hM3
      have e35 : ∀ q, 350 ≤ q → q < 352 → sPropRow N c q = N q := fun q h1 h2 => by show upd (upd N (256 + c) (nI 1)) 352 _ q = _; rw [upd_ne' (by omega), upd_ne' (by omega)]
      exact r_ireturn E P rfl dX2_prop_57 (by rw [hr]; exact ⟨rfl, by show some (Value.int _) = some (Value.int (sPropRow N c 352)); rw [e352], se, pe, _, sf, pf, K, pk, hM3, ⟨((hk0.trans (Kp.up ha2)).up0 hg0).up0 hd0, hd0, hg0, hsl0, hpl0, hse0, hpe0⟩, (e35 350 (by omega) (by omega)).trans hR.1, (e35 351 (by omega) (by omega)).trans hR.2.2.1⟩)
  · have hr : aProp N (nI c) = aRef (nI 9) (nI c) := by unfold aProp; rw [aG_f hg1, aG_t (by rw [hcn, sBare_f h1]; rfl)]
    refine r_callV E (ctF_X2_open_2 G hl h hC hM c false hc h1) mX2_open_2 q933 q935 qs12 (fun H a1 => fm_rc (ci := 2) (C := RX2) (T := TX2) (N := 7) a1 rfl E.v hd) rfl rfl (Nat.le_of_ble_eq_true rfl) (Nat.le_of_ble_eq_true rfl) (Nat.le_of_ble_eq_true rfl) dX2_prop_3 0 0 (Nat.le_of_ble_eq_true rfl) (Nat.le_of_ble_eq_true rfl) (fun _ _ q => q.elim) (fun q Ex h' hx => ?_)
    exact r_xout E P (fun x hx => by cases hx) (dXp.ref hk0 (hr) hx)

set_option maxHeartbeats 4000000 in
theorem ct_X2_unprop (G : fmG) (hl : (fmLn G).stackTraces = false) (h : fmHp) {h0 : fmHp} {d g sl se pl pe : Nat} {gf sf pf : Nat → Nat} {N : Nat → Int32} {K pk : Nat} (hC0 : CC G h0) (hM : MineAt G h d g sl se pl pe gf sf pf N K pk) (hD : Dr G h0 h d g sl se pl pe) (c : Nat) (hc : c < 64) (hR : RV N K pk) : Ct G yX2_unprop (ws_ yX2_unprop cX2_unprop 3 (some .int)) { frames := 5, cells := 1, slots := 8, locals := 134 } [.ref d, .int (nI c)] h (dPost G h0 d g sl pl (aUnprop N (nI c))) (dXp h0 (aUnprop N (nI c))) := by
  refine Ct.of hl (by decide +kernel) (Nat.le_of_ble_eq_true rfl) (fun Γ E P => ?_)
  have hC : CC G h := hC0.kp hD.1
  obtain ⟨hd, ⟨gq, hg, hgq⟩, hgd, hS, hSh, hP, hPk, hK8, hP6, hsp, hse⟩ := id hM
  obtain ⟨mcS, hsl⟩ := hS.o
  obtain ⟨mcP, hpl⟩ := hP.o
  obtain ⟨hk0, hd0, hg0, hsl0, hpl0, hse0, hpe0⟩ := id hD
  obtain ⟨feS, capS, geS, hseA⟩ := hS.el
  obtain ⟨feP, capP, geP, hpeA⟩ := hP.el
  have hg1 : (!sBetween (nI c) (nI 0) (nI 63)) = false := by rw [sCell_n hc]; rfl
  have hcn : cN (nI c) = c := cN_n (by omega)
  obtain ⟨p, hp9, hp⟩ := hR.2.2.2.2.2.2.1
  refine r_aload_n E dX2_unprop_0 rfl ?_
  refine r_iload_n E dX2_unprop_1 rfl ?_
  refine r_iconst E (nI 1) dX2_unprop_2 (by decide) ?_
  by_cases h1 : N c = nI 1 ∧ N (256 + c) = bI true
  · have hco : h (gf c) = some (true, .inr (.inl (4, [.int (N (192 + c)), .int (bI true)]))) := by
      rcases hgd c hc with ⟨q1, _⟩ | ⟨p, q1, q2, q4⟩ | ⟨q1, _⟩
      · rw [h1.1] at q1; exact absurd q1 (by decide)
      · rw [h1.2] at q2; have e9 := bI_inj q2; subst e9; exact q4
      · rw [h1.1] at q1; exact absurd q1 (by decide)
    have hg2 : decide (N (256 + cN (nI c)) = nI 0) = false := decide_eq_false (by rw [hcn, h1.2]; decide)
    have hw := sWide_le N c
    refine r_callV1 (v1 := .ref (gf c)) E (ctT_X2_open_2 G hl (h) hC hM c true hc h1.1 h1.2) mX2_open_2 q933 q935 qs12 (fun H a1 => fm_rc (ci := 2) (C := RX2) (T := TX2) (N := 7) a1 rfl E.v hd) rfl rfl (Nat.le_of_ble_eq_true rfl) (Nat.le_of_ble_eq_true rfl) (Nat.le_of_ble_eq_true rfl) dX2_unprop_3 1 8 (Nat.le_of_ble_eq_true rfl) (Nat.le_of_ble_eq_true rfl) ?_
    refine r_astore_n E [some (.ref d), some (.int (nI c)), some (.ref (gf c))] dX2_unprop_6 rfl rfl ?_
    refine r_aload_n E dX2_unprop_7 rfl ?_
    refine r_iload_n E dX2_unprop_8 rfl ?_
    refine r_callV1 (v1 := .int (nI (sWide N c))) E (ct_X2_widest G hl (h) hC hM c (by omega)) mX2_widest q915 q916 q917 (fun H a1 => fm_rc (ci := 2) (C := RX2) (T := TX2) (N := 7) a1 rfl E.v hd) rfl rfl (Nat.le_of_ble_eq_true rfl) (Nat.le_of_ble_eq_true rfl) (Nat.le_of_ble_eq_true rfl) dX2_unprop_9 1 8 (Nat.le_of_ble_eq_true rfl) (Nat.le_of_ble_eq_true rfl) ?_
    refine r_aload_n E dX2_unprop_12 rfl ?_
    refine r_getf E cl_X2 3 (by decide) q191 hd rfl dX2_unprop_13 ?_
    refine r_icmp_gt (x := nI (sWide N c)) (y := N 355) (tgt := 23) E dX2_unprop_16 (by decide) (fun c1 => ?_) (fun c1 => ?_)
    · have hr : aUnprop N (nI c) = aRef (nI 4) (nI (sWide N c)) := by unfold aUnprop; rw [aG_f hg1, aG_f hg2, hcn, aG_t (decide_eq_true c1)]
      refine r_iconst E (nI 0) dX2_unprop_23 (by decide) ?_
      refine r_iconst E (nI 4) dX2_unprop_24 (by decide) ?_
      refine r_aload_n E dX2_unprop_25 rfl ?_
      refine r_iload_n E dX2_unprop_26 rfl ?_
      refine r_callV1 (v1 := .int (nI (sWide N c))) E (ct_X2_widest G hl (h) hC hM c (by omega)) mX2_widest q915 q916 q917 (fun H a1 => fm_rc (ci := 2) (C := RX2) (T := TX2) (N := 7) a1 rfl E.v hd) rfl rfl (Nat.le_of_ble_eq_true rfl) (Nat.le_of_ble_eq_true rfl) (Nat.le_of_ble_eq_true rfl) dX2_unprop_27 1 8 (Nat.le_of_ble_eq_true rfl) (Nat.le_of_ble_eq_true rfl) ?_
      refine r_callSN E (ctF_X1_allow G hl h (nI 4) (nI (sWide N c))) mX1_allow q78 q734 q735 rfl rfl (Nat.le_of_ble_eq_true rfl) (Nat.le_of_ble_eq_true rfl) (Nat.le_of_ble_eq_true rfl) dX2_unprop_30 0 0 (Nat.le_of_ble_eq_true rfl) (Nat.le_of_ble_eq_true rfl) (fun _ _ q => q.elim) (fun q Ex h' hx => ?_)
      exact r_xout E P (fun x hx => by cases hx) (dXp.ref hk0 (hr) hx)
    · have hr : aUnprop N (nI c) = aDon (sAddP (upd N (256 + c) (nI 0)) (nI 1) 352) (sAddP (upd N (256 + c) (nI 0)) (nI 1)) := by unfold aUnprop; rw [aG_f hg1, aG_f hg2, hcn, aG_f (decide_eq_false c1)]
      refine r_iconst E (nI 1) dX2_unprop_19 (by decide) ?_
      refine r_goto (tgt := 24) E dX2_unprop_20 (by decide) ?_
      refine r_iconst E (nI 4) dX2_unprop_24 (by decide) ?_
      refine r_aload_n E dX2_unprop_25 rfl ?_
      refine r_iload_n E dX2_unprop_26 rfl ?_
      refine r_callV1 (v1 := .int (nI (sWide N c))) E (ct_X2_widest G hl (h) hC hM c (by omega)) mX2_widest q915 q916 q917 (fun H a1 => fm_rc (ci := 2) (C := RX2) (T := TX2) (N := 7) a1 rfl E.v hd) rfl rfl (Nat.le_of_ble_eq_true rfl) (Nat.le_of_ble_eq_true rfl) (Nat.le_of_ble_eq_true rfl) dX2_unprop_27 1 8 (Nat.le_of_ble_eq_true rfl) (Nat.le_of_ble_eq_true rfl) ?_
      refine r_callSN0 E (ctT_X1_allow G hl (h) (nI 4) (nI (sWide N c))) mX1_allow q78 q734 q735 rfl rfl (Nat.le_of_ble_eq_true rfl) (Nat.le_of_ble_eq_true rfl) (Nat.le_of_ble_eq_true rfl) dX2_unprop_30 1 8 (Nat.le_of_ble_eq_true rfl) (Nat.le_of_ble_eq_true rfl) ?_
      refine r_aload_n E dX2_unprop_33 rfl ?_
      refine r_getf E cl_X2 0 (by decide) q185 hd rfl dX2_unprop_34 ?_
      refine r_iload_n E dX2_unprop_37 rfl ?_
      refine r_new E cl_X6 [.int 0, .int 0] q803 q804 q108 (by decide) 0 0 (Nat.le_of_ble_eq_true rfl) (Nat.le_of_ble_eq_true rfl) dX2_unprop_38 (fun a2 ha2 ka2 => ?_)
      refine r_dup E dX2_unprop_41 rfl ?_
      refine r_aload_n E dX2_unprop_42 rfl ?_
      refine r_getfN E cl_X6 0 (by decide) q811 (fmUp_of hco ha2) rfl dX2_unprop_43 ?_
      refine r_iconst E (nI 0) dX2_unprop_46 (by decide) ?_
      refine r_callI0 E (ct_X6_init G hl (fmUp h a2 (true, .inr (.inl (4, [.int 0, .int 0])))) a2 (N (192 + c)) false fmUp_s) mX6_init rfl q805 q806 rfl rfl (Nat.le_of_ble_eq_true rfl) (Nat.le_of_ble_eq_true rfl) (Nat.le_of_ble_eq_true rfl) dX2_unprop_47 0 0 (Nat.le_of_ble_eq_true rfl) (Nat.le_of_ble_eq_true rfl) ?_
      refine r_hp (h' := fmUp h a2 (true, .inr (.inl (4, [.int (N (192 + c)), .int (bI false)])))) (fmUp_uu _ _ _ _) ?_
      have hMa := hM.kp (Kp.up (e := (true, .inr (.inl (4, [.int (N (192 + c)), .int (bI false)])))) ha2)
      have hga := fmUp_of (e := (true, .inr (.inl (4, [.int (N (192 + c)), .int (bI false)])))) hg ha2
      have hda := fmUp_of (e := (true, .inr (.inl (4, [.int (N (192 + c)), .int (bI false)])))) hd ha2
      refine r_aast E (t := 7) (Ev := "FlintMine$Ground") rfl (fun H a1 => fm_rc a1 cl_X6.1 E.v fmUp_s) q322 hga hc (by decide) dX2_unprop_50 ?_
      have hM2 := hMa.setg hga hgq hc (a := a2) (N' := upd N (256 + c) (nI 0)) (Or.inr (Or.inl ⟨false, by rw [upd_ne' (by omega)]; exact h1.1, upd_eq' rfl, by rw [upd_ne' (by omega)]; exact fmUp_s⟩)) (fun q q1 q2 q3 q4 q5 => upd_ne' q5)
      have hD2 : Dr G h0 _ d g sl se pl pe := ⟨(hk0.trans (Kp.up (e := (true, .inr (.inl (4, [.int (N (192 + c)), .int (bI false)])))) ha2)).up0 (e := (true, .inl (7, 64, .inr (.inr (.inr (.inr (va_up gq c (some a2)))))))) hg0, hd0, hg0, hsl0, hpl0, hse0, hpe0⟩
      refine r_aload_n E dX2_unprop_51 rfl ?_
      refine r_iconst E (nI 1) dX2_unprop_52 (by decide) ?_
      refine r_callV E (ct_X2_addProps G hl _ hC0 hM2 hD2 p 1 ((upd_ne' (by omega)).trans hp) hp9 (by omega)) mX2_addProps q945 q744 q745 (fun H a1 => fm_rc (ci := 2) (C := RX2) (T := TX2) (N := 7) a1 rfl E.v ((fmUp_n (fun z => by rw [z, hga] at hda; cases hda)).trans hda)) rfl rfl (Nat.le_of_ble_eq_true rfl) (Nat.le_of_ble_eq_true rfl) (Nat.le_of_ble_eq_true rfl) dX2_unprop_53 0 0 (Nat.le_of_ble_eq_true rfl) (Nat.le_of_ble_eq_true rfl) (fun v' h1 q => ?_) (fun _ _ _ q => q.elim)
      obtain ⟨rfl, hM3, hD3, ho3⟩ := q
      exact r_ireturn E P rfl dX2_unprop_56 (by rw [hr]; exact ⟨rfl, rfl, se, pe, _, sf, pf, K, pk, hM3, hD3, (by show sAddP (upd N (256 + c) (nI 0)) (nI 1) 350 = _; rw [sAddP_ne (by omega), upd_ne' (by omega)]; exact hR.1), (by show sAddP (upd N (256 + c) (nI 0)) (nI 1) 351 = _; rw [sAddP_ne (by omega), upd_ne' (by omega)]; exact hR.2.2.1)⟩)
  · have h0 : N (256 + c) = nI 0 := (hgd c hc).prop.elim id (fun z => absurd z h1)
    have hr : aUnprop N (nI c) = aRef (nI 9) (nI c) := by unfold aUnprop; rw [aG_f hg1, aG_t (decide_eq_true (by rw [hcn]; exact h0))]
    refine r_callV E (ctF_X2_open_2 G hl h hC hM c true hc h1) mX2_open_2 q933 q935 qs12 (fun H a1 => fm_rc (ci := 2) (C := RX2) (T := TX2) (N := 7) a1 rfl E.v hd) rfl rfl (Nat.le_of_ble_eq_true rfl) (Nat.le_of_ble_eq_true rfl) (Nat.le_of_ble_eq_true rfl) dX2_unprop_3 0 0 (Nat.le_of_ble_eq_true rfl) (Nat.le_of_ble_eq_true rfl) (fun _ _ q => q.elim) (fun q Ex h' hx => ?_)
    exact r_xout E P (fun x hx => by cases hx) (dXp.ref hk0 (hr) hx)

