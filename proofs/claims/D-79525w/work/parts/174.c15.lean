set_option maxHeartbeats 4000000 in
theorem ct_X15_done (G : fmG) (hl : (fmLn G).stackTraces = false) (h : fmHp) {h0 : fmHp} {d g sl se pl pe : Nat} {gf sf pf : Nat → Nat} {N : Nat → Int32} {K pk : Nat} (hC0 : CC G h0) (hM : MineAt G h d g sl se pl pe gf sf pf N K pk) (hD : Dr G h0 h d g sl se pl pe) (o a : Nat) (fl : Bool) (f : Nat → Int32) (ha : h a = some (fl, .inl (0, 1, .inl f))) (hR : RV N K pk)  : Ct G yX15_done (ws_ yX15_done cX15_done 3 (some .int)) { frames := 7, cells := 2, slots := 9, locals := 154 } [.ref o, .ref d, .ref a] h (dPost G h0 d g sl pl (aRoof N (f 0))) (dXp h0 (aRoof N (f 0))) := by
  refine Ct.of hl (by decide +kernel) (Nat.le_of_ble_eq_true rfl) (fun Γ E P => ?_)
  have hC : CC G h := hC0.kp hD.1
  obtain ⟨hd, ⟨gq, hg, hgq⟩, hgd, hS, hSh, hP, hPk, hK8, hP6, hsp, hse⟩ := id hM
  obtain ⟨mcS, hsl⟩ := hS.o
  obtain ⟨mcP, hpl⟩ := hP.o
  obtain ⟨hk0, hd0, hg0, hsl0, hpl0, hse0, hpe0⟩ := id hD
  obtain ⟨feS, capS, geS, hseA⟩ := hS.el
  obtain ⟨feP, capP, geP, hpeA⟩ := hP.el
  refine r_iconst E (nI 1) dX15_done_0 (by decide) ?_
  refine r_newa E 5 (.inl (fun _ => 0)) rfl (z_ab 1) q681 (fun e => e) (Nat.le_of_ble_eq_true rfl) (Nat.le_of_ble_eq_true rfl) 1 8 (Nat.le_of_ble_eq_true rfl) (Nat.le_of_ble_eq_true rfl) dX15_done_1 (fun b1 hb1 kb1 => ?_)
  refine r_dup E dX15_done_3 rfl ?_
  refine r_iconst E (nI 0) dX15_done_4 (by decide) ?_
  refine r_aload_n E dX15_done_5 rfl ?_
  refine r_iconst E (nI 0) dX15_done_6 (by decide) ?_
  refine r_iald E (fmUp_of ha hb1) (by decide) (by decide) dX15_done_7 ?_
  refine r_iconst E (nI 2) dX15_done_8 (by decide) ?_
  refine r_bipush E (nI 8) dX15_done_9 (by decide) ?_
  refine r_callSN1 (v1 := .int (bI (sBetween (f 0) (nI 2) (nI 8)))) E (ct_X1_inRange G hl (fmUp h b1 (true, .inl (5, 1, .inl (fun _ => 0)))) (f 0) (nI 2) (nI 8)) mX1_inRange q78 q727 q629 rfl rfl (Nat.le_of_ble_eq_true rfl) (Nat.le_of_ble_eq_true rfl) (Nat.le_of_ble_eq_true rfl) dX15_done_11 1 8 (Nat.le_of_ble_eq_true rfl) (Nat.le_of_ble_eq_true rfl) ?_
  refine r_zast E fmUp_s (by decide) (by decide) dX15_done_14 ?_
  refine r_hp (h' := fmUp h b1 (true, .inl (5, 1, .inl (upd (fun _ => 0) 0 (bI (sBetween (f 0) (nI 2) (nI 8))))))) (fmUp_uu _ _ _ _) ?_
  cases e1 : sBetween (f 0) (nI 2) (nI 8) with
  | false =>
    have hr : aRoof N (f 0) = aThr 2 := by unfold aRoof; rw [e1]; rfl
    refine r_callSN E (ctF1_X1_require G hl _ b1 _ fmUp_s rfl) mX1_require q78 q728 q664 rfl rfl (Nat.le_of_ble_eq_true rfl) (Nat.le_of_ble_eq_true rfl) (Nat.le_of_ble_eq_true rfl) dX15_done_15 0 0 (Nat.le_of_ble_eq_true rfl) (Nat.le_of_ble_eq_true rfl) (fun _ _ q => q.elim) (fun q Ex h' hx => ?_)
    exact r_xout E P (fun x hx => by cases hx) (dXp.ia (hk0.trans (Kp.up hb1)) hr hx)
  | true =>
    refine r_callSN0 E (ctT1_X1_require G hl (_) b1 _ fmUp_s rfl) mX1_require q78 q728 q664 rfl rfl (Nat.le_of_ble_eq_true rfl) (Nat.le_of_ble_eq_true rfl) (Nat.le_of_ble_eq_true rfl) dX15_done_15 1 8 (Nat.le_of_ble_eq_true rfl) (Nat.le_of_ble_eq_true rfl) ?_
    have hM1 := hM.kp (Kp.up (e := (true, .inl (5, 1, .inl (upd (fun _ => 0) 0 (bI true))))) hb1)
    have hD1 := hD.kp (Kp.up (e := (true, .inl (5, 1, .inl (upd (fun _ => 0) 0 (bI true))))) hb1)
    refine r_aload_n E dX15_done_18 rfl ?_
    refine r_aload_n E dX15_done_19 rfl ?_
    refine r_iconst E (nI 0) dX15_done_20 (by decide) ?_
    refine r_iald E (fmUp_of ha hb1) (by decide) (by decide) dX15_done_21 ?_
    refine r_callV E (ct_X2_setRoof G hl _ hC0 hM1 hD1 (f 0) hR (by rw [e1]; rfl)) mX2_setRoof q729 q730 q731 (fun H a1 => fm_rc (ci := 2) (C := RX2) (T := TX2) (N := 7) a1 rfl E.v (fmUp_of hd hb1)) rfl rfl (Nat.le_of_ble_eq_true rfl) (Nat.le_of_ble_eq_true rfl) (Nat.le_of_ble_eq_true rfl) dX15_done_22 0 0 (Nat.le_of_ble_eq_true rfl) (Nat.le_of_ble_eq_true rfl) (fun v' h1 q => ?_) (fun q Ex h' hx => ?_)
    · obtain ⟨q1, rfl, q3⟩ := q
      exact r_ireturn E P rfl dX15_done_25 (dPost.eq rfl ⟨q1, rfl, q3⟩)
    · exact r_xout E P (fun x hx => by cases hx) (dXp.eq rfl hx)

set_option maxHeartbeats 4000000 in
theorem ct_X16_done (G : fmG) (hl : (fmLn G).stackTraces = false) (h : fmHp) {h0 : fmHp} {d g sl se pl pe : Nat} {gf sf pf : Nat → Nat} {N : Nat → Int32} {K pk : Nat} (hC0 : CC G h0) (hM : MineAt G h d g sl se pl pe gf sf pf N K pk) (hD : Dr G h0 h d g sl se pl pe) (o a : Nat) (fl : Bool) (f : Nat → Int32) (ha : h a = some (fl, .inl (0, 1, .inl f))) (hR : RV N K pk)  : Ct G yX16_done (ws_ yX16_done cX16_done 3 (some .int)) { frames := 7, cells := 2, slots := 9, locals := 124 } [.ref o, .ref d, .ref a] h (dPost G h0 d g sl pl (aProps N (f 0))) (dXp h0 (aProps N (f 0))) := by
  refine Ct.of hl (by decide +kernel) (Nat.le_of_ble_eq_true rfl) (fun Γ E P => ?_)
  have hC : CC G h := hC0.kp hD.1
  obtain ⟨hd, ⟨gq, hg, hgq⟩, hgd, hS, hSh, hP, hPk, hK8, hP6, hsp, hse⟩ := id hM
  obtain ⟨mcS, hsl⟩ := hS.o
  obtain ⟨mcP, hpl⟩ := hP.o
  obtain ⟨hk0, hd0, hg0, hsl0, hpl0, hse0, hpe0⟩ := id hD
  obtain ⟨feS, capS, geS, hseA⟩ := hS.el
  obtain ⟨feP, capP, geP, hpeA⟩ := hP.el
  refine r_iconst E (nI 1) dX16_done_0 (by decide) ?_
  refine r_newa E 5 (.inl (fun _ => 0)) rfl (z_ab 1) q681 (fun e => e) (Nat.le_of_ble_eq_true rfl) (Nat.le_of_ble_eq_true rfl) 1 8 (Nat.le_of_ble_eq_true rfl) (Nat.le_of_ble_eq_true rfl) dX16_done_1 (fun b1 hb1 kb1 => ?_)
  refine r_dup E dX16_done_3 rfl ?_
  refine r_iconst E (nI 0) dX16_done_4 (by decide) ?_
  refine r_aload_n E dX16_done_5 rfl ?_
  refine r_iconst E (nI 0) dX16_done_6 (by decide) ?_
  refine r_iald E (fmUp_of ha hb1) (by decide) (by decide) dX16_done_7 ?_
  refine r_iconst E (nI 1) dX16_done_8 (by decide) ?_
  refine r_bipush E (nI 99) dX16_done_9 (by decide) ?_
  refine r_callSN1 (v1 := .int (bI (sBetween (f 0) (nI 1) (nI 99)))) E (ct_X1_inRange G hl (fmUp h b1 (true, .inl (5, 1, .inl (fun _ => 0)))) (f 0) (nI 1) (nI 99)) mX1_inRange q78 q741 q629 rfl rfl (Nat.le_of_ble_eq_true rfl) (Nat.le_of_ble_eq_true rfl) (Nat.le_of_ble_eq_true rfl) dX16_done_11 1 8 (Nat.le_of_ble_eq_true rfl) (Nat.le_of_ble_eq_true rfl) ?_
  refine r_zast E fmUp_s (by decide) (by decide) dX16_done_14 ?_
  refine r_hp (h' := fmUp h b1 (true, .inl (5, 1, .inl (upd (fun _ => 0) 0 (bI (sBetween (f 0) (nI 1) (nI 99))))))) (fmUp_uu _ _ _ _) ?_
  cases e1 : sBetween (f 0) (nI 1) (nI 99) with
  | false =>
    have hr : aProps N (f 0) = aThr 2 := by unfold aProps; rw [e1]; rfl
    refine r_callSN E (ctF1_X1_require G hl _ b1 _ fmUp_s rfl) mX1_require q78 q742 q664 rfl rfl (Nat.le_of_ble_eq_true rfl) (Nat.le_of_ble_eq_true rfl) (Nat.le_of_ble_eq_true rfl) dX16_done_15 0 0 (Nat.le_of_ble_eq_true rfl) (Nat.le_of_ble_eq_true rfl) (fun _ _ q => q.elim) (fun q Ex h' hx => ?_)
    exact r_xout E P (fun x hx => by cases hx) (dXp.ia (hk0.trans (Kp.up hb1)) hr hx)
  | true =>
    refine r_callSN0 E (ctT1_X1_require G hl (_) b1 _ fmUp_s rfl) mX1_require q78 q742 q664 rfl rfl (Nat.le_of_ble_eq_true rfl) (Nat.le_of_ble_eq_true rfl) (Nat.le_of_ble_eq_true rfl) dX16_done_15 1 8 (Nat.le_of_ble_eq_true rfl) (Nat.le_of_ble_eq_true rfl) ?_
    have hM1 := hM.kp (Kp.up (e := (true, .inl (5, 1, .inl (upd (fun _ => 0) 0 (bI true))))) hb1)
    have hD1 := hD.kp (Kp.up (e := (true, .inl (5, 1, .inl (upd (fun _ => 0) 0 (bI true))))) hb1)
    refine r_aload_n E dX16_done_18 rfl ?_
    refine r_aload_n E dX16_done_19 rfl ?_
    refine r_iconst E (nI 0) dX16_done_20 (by decide) ?_
    refine r_iald E (fmUp_of ha hb1) (by decide) (by decide) dX16_done_21 ?_
    obtain ⟨p, hp9, hp⟩ := hR.2.2.2.2.2.2.1
    obtain ⟨q, hq1, hq9, hq⟩ := sBtw_1 e1
    refine r_top (v' := .int (nI q)) (by rw [hq]) ?_
    refine r_callV E (ct_X2_addProps G hl _ hC0 hM1 hD1 p q hp hp9 hq9) mX2_addProps q743 q744 q745 (fun H a1 => fm_rc (ci := 2) (C := RX2) (T := TX2) (N := 7) a1 rfl E.v (fmUp_of hd hb1)) rfl rfl (Nat.le_of_ble_eq_true rfl) (Nat.le_of_ble_eq_true rfl) (Nat.le_of_ble_eq_true rfl) dX16_done_22 0 0 (Nat.le_of_ble_eq_true rfl) (Nat.le_of_ble_eq_true rfl) (fun v' h1 q => ?_) (fun _ _ _ q => q.elim)
    obtain ⟨rfl, hM2, hD2, ho2⟩ := q
    exact r_ireturn E P rfl dX16_done_25 (dPost.don (by unfold aProps; rw [e1, hq]; rfl) ⟨se, pe, gf, sf, pf, K, pk, hM2, hD2, (sAddP_ne (by omega)).trans hR.1, (sAddP_ne (by omega)).trans hR.2.2.1⟩)

set_option maxHeartbeats 4000000 in
theorem ct_X17_done (G : fmG) (hl : (fmLn G).stackTraces = false) (h : fmHp) {h0 : fmHp} {d g sl se pl pe : Nat} {gf sf pf : Nat → Nat} {N : Nat → Int32} {K pk : Nat} (hC0 : CC G h0) (hM : MineAt G h d g sl se pl pe gf sf pf N K pk) (hD : Dr G h0 h d g sl se pl pe) (o a : Nat) (fl : Bool) (f : Nat → Int32) (ha : h a = some (fl, .inl (0, 1, .inl f))) (hR : RV N K pk)  : Ct G yX17_done (ws_ yX17_done cX17_done 3 (some .int)) { frames := 8, cells := 2, slots := 201, locals := 212 } [.ref o, .ref d, .ref a] h (dPost G h0 d g sl pl (aPick N (f 0) pk)) (dXp h0 (aPick N (f 0) pk)) := by
  refine Ct.of hl (by decide +kernel) (Nat.le_of_ble_eq_true rfl) (fun Γ E P => ?_)
  have hC : CC G h := hC0.kp hD.1
  obtain ⟨hd, ⟨gq, hg, hgq⟩, hgd, hS, hSh, hP, hPk, hK8, hP6, hsp, hse⟩ := id hM
  obtain ⟨mcS, hsl⟩ := hS.o
  obtain ⟨mcP, hpl⟩ := hP.o
  obtain ⟨hk0, hd0, hg0, hsl0, hpl0, hse0, hpe0⟩ := id hD
  obtain ⟨feS, capS, geS, hseA⟩ := hS.el
  obtain ⟨feP, capP, geP, hpeA⟩ := hP.el
  refine r_iconst E (nI 1) dX17_done_0 (by decide) ?_
  refine r_newa E 5 (.inl (fun _ => 0)) rfl (z_ab 1) q681 (fun e => e) (Nat.le_of_ble_eq_true rfl) (Nat.le_of_ble_eq_true rfl) 1 200 (Nat.le_of_ble_eq_true rfl) (Nat.le_of_ble_eq_true rfl) dX17_done_1 (fun b1 hb1 kb1 => ?_)
  refine r_dup E dX17_done_3 rfl ?_
  refine r_iconst E (nI 0) dX17_done_4 (by decide) ?_
  refine r_aload_n E dX17_done_5 rfl ?_
  refine r_iconst E (nI 0) dX17_done_6 (by decide) ?_
  refine r_iald E (fmUp_of ha hb1) (by decide) (by decide) dX17_done_7 ?_
  refine r_iconst E (nI 1) dX17_done_8 (by decide) ?_
  refine r_bipush E (nI 99) dX17_done_9 (by decide) ?_
  refine r_callSN1 (v1 := .int (bI (sBetween (f 0) (nI 1) (nI 99)))) E (ct_X1_inRange G hl (fmUp h b1 (true, .inl (5, 1, .inl (fun _ => 0)))) (f 0) (nI 1) (nI 99)) mX1_inRange q78 q751 q629 rfl rfl (Nat.le_of_ble_eq_true rfl) (Nat.le_of_ble_eq_true rfl) (Nat.le_of_ble_eq_true rfl) dX17_done_11 1 200 (Nat.le_of_ble_eq_true rfl) (Nat.le_of_ble_eq_true rfl) ?_
  refine r_zast E fmUp_s (by decide) (by decide) dX17_done_14 ?_
  refine r_hp (h' := fmUp h b1 (true, .inl (5, 1, .inl (upd (fun _ => 0) 0 (bI (sBetween (f 0) (nI 1) (nI 99))))))) (fmUp_uu _ _ _ _) ?_
  cases e1 : sBetween (f 0) (nI 1) (nI 99) with
  | false =>
    have hr : aPick N (f 0) pk = aThr 2 := by unfold aPick; rw [e1]; rfl
    refine r_callSN E (ctF1_X1_require G hl _ b1 _ fmUp_s rfl) mX1_require q78 q752 q664 rfl rfl (Nat.le_of_ble_eq_true rfl) (Nat.le_of_ble_eq_true rfl) (Nat.le_of_ble_eq_true rfl) dX17_done_15 0 0 (Nat.le_of_ble_eq_true rfl) (Nat.le_of_ble_eq_true rfl) (fun _ _ q => q.elim) (fun q Ex h' hx => ?_)
    exact r_xout E P (fun x hx => by cases hx) (dXp.ia (hk0.trans (Kp.up hb1)) hr hx)
  | true =>
    refine r_callSN0 E (ctT1_X1_require G hl (_) b1 _ fmUp_s rfl) mX1_require q78 q752 q664 rfl rfl (Nat.le_of_ble_eq_true rfl) (Nat.le_of_ble_eq_true rfl) (Nat.le_of_ble_eq_true rfl) dX17_done_15 1 200 (Nat.le_of_ble_eq_true rfl) (Nat.le_of_ble_eq_true rfl) ?_
    have hM1 := hM.kp (Kp.up (e := (true, .inl (5, 1, .inl (upd (fun _ => 0) 0 (bI true))))) hb1)
    have hD1 := hD.kp (Kp.up (e := (true, .inl (5, 1, .inl (upd (fun _ => 0) 0 (bI true))))) hb1)
    refine r_aload_n E dX17_done_18 rfl ?_
    refine r_aload_n E dX17_done_19 rfl ?_
    refine r_iconst E (nI 0) dX17_done_20 (by decide) ?_
    refine r_iald E (fmUp_of ha hb1) (by decide) (by decide) dX17_done_21 ?_
    obtain ⟨q, hq1, hq9, hq⟩ := sBtw_1 e1
    refine r_top (v' := .int (nI q)) (by rw [hq]) ?_
    refine r_callV E (ct_X2_addPick G hl _ hC0 hM1 hD1 q hq1 hq9 hR) mX2_addPick q753 q754 q755 (fun H a1 => fm_rc (ci := 2) (C := RX2) (T := TX2) (N := 7) a1 rfl E.v (fmUp_of hd hb1)) rfl rfl (Nat.le_of_ble_eq_true rfl) (Nat.le_of_ble_eq_true rfl) (Nat.le_of_ble_eq_true rfl) dX17_done_22 0 0 (Nat.le_of_ble_eq_true rfl) (Nat.le_of_ble_eq_true rfl) (fun v' h1 q => ?_) (fun q Ex h' hx => ?_)
    · obtain ⟨q1, rfl, q3⟩ := q
      exact r_ireturn E P rfl dX17_done_25 (dPost.eq (by rw [hq]) ⟨q1, rfl, q3⟩)
    · exact r_xout E P (fun x hx => by cases hx) (dXp.eq (by rw [hq]) hx)

set_option maxHeartbeats 4000000 in
theorem ct_X18_done (G : fmG) (hl : (fmLn G).stackTraces = false) (h : fmHp) {h0 : fmHp} {d g sl se pl pe : Nat} {gf sf pf : Nat → Nat} {N : Nat → Int32} {K pk : Nat} (hC0 : CC G h0) (hM : MineAt G h d g sl se pl pe gf sf pf N K pk) (hD : Dr G h0 h d g sl se pl pe) (o a : Nat) (fl : Bool) (f : Nat → Int32) (ha : h a = some (fl, .inl (0, 1, .inl f))) (hR : RV N K pk)  : Ct G yX18_done (ws_ yX18_done cX18_done 3 (some .int)) { frames := 8, cells := 3, slots := 205, locals := 214 } [.ref o, .ref d, .ref a] h (dPost G h0 d g sl pl (aSink N (f 0) K pk)) (dXp h0 (aSink N (f 0) K pk)) := by
  refine Ct.of hl (by decide +kernel) (Nat.le_of_ble_eq_true rfl) (fun Γ E P => ?_)
  have hC : CC G h := hC0.kp hD.1
  obtain ⟨hd, ⟨gq, hg, hgq⟩, hgd, hS, hSh, hP, hPk, hK8, hP6, hsp, hse⟩ := id hM
  obtain ⟨mcS, hsl⟩ := hS.o
  obtain ⟨mcP, hpl⟩ := hP.o
  obtain ⟨hk0, hd0, hg0, hsl0, hpl0, hse0, hpe0⟩ := id hD
  obtain ⟨feS, capS, geS, hseA⟩ := hS.el
  obtain ⟨feP, capP, geP, hpeA⟩ := hP.el
  refine r_aload_n E dX18_done_0 rfl ?_
  refine r_aload_n E dX18_done_1 rfl ?_
  cases e1 : sBetween (f 0) (nI 0) (nI 63) with
  | false =>
    have hr : aSink N (f 0) K pk = aThr 1 := by unfold aSink; rw [e1]; rfl
    refine r_callSN E (ctF_X1_cellOf G hl h a fl f ha e1) mX1_cellOf q78 q782 q626 rfl rfl (Nat.le_of_ble_eq_true rfl) (Nat.le_of_ble_eq_true rfl) (Nat.le_of_ble_eq_true rfl) dX18_done_2 0 0 (Nat.le_of_ble_eq_true rfl) (Nat.le_of_ble_eq_true rfl) (fun _ _ q => q.elim) (fun q Ex h' hx => ?_)
    exact r_xout E P (fun x hx => by cases hx) (dXp.oob hk0 hr hx)
  | true =>
    obtain ⟨c, hc0, hf⟩ := sBtw_of (by decide) e1
    have hc : c < 64 := by omega
    refine r_callSN1 (v1 := .int (nI c)) E (ctT_X1_cellOf G hl h a fl f ha c hc hf) mX1_cellOf q78 q782 q626 rfl rfl (Nat.le_of_ble_eq_true rfl) (Nat.le_of_ble_eq_true rfl) (Nat.le_of_ble_eq_true rfl) dX18_done_2 3 205 (Nat.le_of_ble_eq_true rfl) (Nat.le_of_ble_eq_true rfl) ?_
    refine r_callV E (ct_X2_sink G hl _ hC0 hM hD c hc hR) mX2_sink q783 q784 q785 (fun H a1 => fm_rc (ci := 2) (C := RX2) (T := TX2) (N := 7) a1 rfl E.v hd) rfl rfl (Nat.le_of_ble_eq_true rfl) (Nat.le_of_ble_eq_true rfl) (Nat.le_of_ble_eq_true rfl) dX18_done_5 0 0 (Nat.le_of_ble_eq_true rfl) (Nat.le_of_ble_eq_true rfl) (fun v' h1 q => ?_) (fun q Ex h' hx => ?_)
    · obtain ⟨q1, rfl, q3⟩ := q
      exact r_ireturn E P rfl dX18_done_8 (dPost.eq (by rw [hf]) ⟨q1, rfl, q3⟩)
    · exact r_xout E P (fun x hx => by cases hx) (dXp.eq (by rw [hf]) hx)

set_option maxHeartbeats 4000000 in
theorem ct_X20_done (G : fmG) (hl : (fmLn G).stackTraces = false) (h : fmHp) {h0 : fmHp} {d g sl se pl pe : Nat} {gf sf pf : Nat → Nat} {N : Nat → Int32} {K pk : Nat} (hC0 : CC G h0) (hM : MineAt G h d g sl se pl pe gf sf pf N K pk) (hD : Dr G h0 h d g sl se pl pe) (o a : Nat) (fl : Bool) (f : Nat → Int32) (ha : h a = some (fl, .inl (0, 1, .inl f))) (hR : RV N K pk)  : Ct G yX20_done (ws_ yX20_done cX20_done 3 (some .int)) { frames := 8, cells := 1, slots := 8, locals := 156 } [.ref o, .ref d, .ref a] h (dPost G h0 d g sl pl (aProp N (f 0))) (dXp h0 (aProp N (f 0))) := by
  refine Ct.of hl (by decide +kernel) (Nat.le_of_ble_eq_true rfl) (fun Γ E P => ?_)
  have hC : CC G h := hC0.kp hD.1
  obtain ⟨hd, ⟨gq, hg, hgq⟩, hgd, hS, hSh, hP, hPk, hK8, hP6, hsp, hse⟩ := id hM
  obtain ⟨mcS, hsl⟩ := hS.o
  obtain ⟨mcP, hpl⟩ := hP.o
  obtain ⟨hk0, hd0, hg0, hsl0, hpl0, hse0, hpe0⟩ := id hD
  obtain ⟨feS, capS, geS, hseA⟩ := hS.el
  obtain ⟨feP, capP, geP, hpeA⟩ := hP.el
  refine r_aload_n E dX20_done_0 rfl ?_
  refine r_aload_n E dX20_done_1 rfl ?_
  cases e1 : sBetween (f 0) (nI 0) (nI 63) with
  | false =>
    have hr : aProp N (f 0) = aThr 1 := by unfold aProp; rw [e1]; rfl
    refine r_callSN E (ctF_X1_cellOf G hl h a fl f ha e1) mX1_cellOf q78 q928 q626 rfl rfl (Nat.le_of_ble_eq_true rfl) (Nat.le_of_ble_eq_true rfl) (Nat.le_of_ble_eq_true rfl) dX20_done_2 0 0 (Nat.le_of_ble_eq_true rfl) (Nat.le_of_ble_eq_true rfl) (fun _ _ q => q.elim) (fun q Ex h' hx => ?_)
    exact r_xout E P (fun x hx => by cases hx) (dXp.oob hk0 hr hx)
  | true =>
    obtain ⟨c, hc0, hf⟩ := sBtw_of (by decide) e1
    have hc : c < 64 := by omega
    refine r_callSN1 (v1 := .int (nI c)) E (ctT_X1_cellOf G hl h a fl f ha c hc hf) mX1_cellOf q78 q928 q626 rfl rfl (Nat.le_of_ble_eq_true rfl) (Nat.le_of_ble_eq_true rfl) (Nat.le_of_ble_eq_true rfl) dX20_done_2 1 8 (Nat.le_of_ble_eq_true rfl) (Nat.le_of_ble_eq_true rfl) ?_
    refine r_callV E (ct_X2_prop G hl _ hC0 hM hD c hc hR) mX2_prop q929 q930 q931 (fun H a1 => fm_rc (ci := 2) (C := RX2) (T := TX2) (N := 7) a1 rfl E.v hd) rfl rfl (Nat.le_of_ble_eq_true rfl) (Nat.le_of_ble_eq_true rfl) (Nat.le_of_ble_eq_true rfl) dX20_done_5 0 0 (Nat.le_of_ble_eq_true rfl) (Nat.le_of_ble_eq_true rfl) (fun v' h1 q => ?_) (fun q Ex h' hx => ?_)
    · obtain ⟨q1, rfl, q3⟩ := q
      exact r_ireturn E P rfl dX20_done_8 (dPost.eq (by rw [hf]) ⟨q1, rfl, q3⟩)
    · exact r_xout E P (fun x hx => by cases hx) (dXp.eq (by rw [hf]) hx)

set_option maxHeartbeats 4000000 in
theorem ct_X21_done (G : fmG) (hl : (fmLn G).stackTraces = false) (h : fmHp) {h0 : fmHp} {d g sl se pl pe : Nat} {gf sf pf : Nat → Nat} {N : Nat → Int32} {K pk : Nat} (hC0 : CC G h0) (hM : MineAt G h d g sl se pl pe gf sf pf N K pk) (hD : Dr G h0 h d g sl se pl pe) (o a : Nat) (fl : Bool) (f : Nat → Int32) (ha : h a = some (fl, .inl (0, 1, .inl f))) (hR : RV N K pk)  : Ct G yX21_done (ws_ yX21_done cX21_done 3 (some .int)) { frames := 8, cells := 1, slots := 8, locals := 156 } [.ref o, .ref d, .ref a] h (dPost G h0 d g sl pl (aUnprop N (f 0))) (dXp h0 (aUnprop N (f 0))) := by
  refine Ct.of hl (by decide +kernel) (Nat.le_of_ble_eq_true rfl) (fun Γ E P => ?_)
  have hC : CC G h := hC0.kp hD.1
  obtain ⟨hd, ⟨gq, hg, hgq⟩, hgd, hS, hSh, hP, hPk, hK8, hP6, hsp, hse⟩ := id hM
  obtain ⟨mcS, hsl⟩ := hS.o
  obtain ⟨mcP, hpl⟩ := hP.o
  obtain ⟨hk0, hd0, hg0, hsl0, hpl0, hse0, hpe0⟩ := id hD
  obtain ⟨feS, capS, geS, hseA⟩ := hS.el
  obtain ⟨feP, capP, geP, hpeA⟩ := hP.el
  refine r_aload_n E dX21_done_0 rfl ?_
  refine r_aload_n E dX21_done_1 rfl ?_
  cases e1 : sBetween (f 0) (nI 0) (nI 63) with
  | false =>
    have hr : aUnprop N (f 0) = aThr 1 := by unfold aUnprop; rw [e1]; rfl
    refine r_callSN E (ctF_X1_cellOf G hl h a fl f ha e1) mX1_cellOf q78 q940 q626 rfl rfl (Nat.le_of_ble_eq_true rfl) (Nat.le_of_ble_eq_true rfl) (Nat.le_of_ble_eq_true rfl) dX21_done_2 0 0 (Nat.le_of_ble_eq_true rfl) (Nat.le_of_ble_eq_true rfl) (fun _ _ q => q.elim) (fun q Ex h' hx => ?_)
    exact r_xout E P (fun x hx => by cases hx) (dXp.oob hk0 hr hx)
  | true =>
    obtain ⟨c, hc0, hf⟩ := sBtw_of (by decide) e1
    have hc : c < 64 := by omega
    refine r_callSN1 (v1 := .int (nI c)) E (ctT_X1_cellOf G hl h a fl f ha c hc hf) mX1_cellOf q78 q940 q626 rfl rfl (Nat.le_of_ble_eq_true rfl) (Nat.le_of_ble_eq_true rfl) (Nat.le_of_ble_eq_true rfl) dX21_done_2 1 8 (Nat.le_of_ble_eq_true rfl) (Nat.le_of_ble_eq_true rfl) ?_
    refine r_callV E (ct_X2_unprop G hl _ hC0 hM hD c hc hR) mX2_unprop q941 q942 q943 (fun H a1 => fm_rc (ci := 2) (C := RX2) (T := TX2) (N := 7) a1 rfl E.v hd) rfl rfl (Nat.le_of_ble_eq_true rfl) (Nat.le_of_ble_eq_true rfl) (Nat.le_of_ble_eq_true rfl) dX21_done_5 0 0 (Nat.le_of_ble_eq_true rfl) (Nat.le_of_ble_eq_true rfl) (fun v' h1 q => ?_) (fun q Ex h' hx => ?_)
    · obtain ⟨q1, rfl, q3⟩ := q
      exact r_ireturn E P rfl dX21_done_8 (dPost.eq (by rw [hf]) ⟨q1, rfl, q3⟩)
    · exact r_xout E P (fun x hx => by cases hx) (dXp.eq (by rw [hf]) hx)

set_option maxHeartbeats 4000000 in
theorem ct_X22_done (G : fmG) (hl : (fmLn G).stackTraces = false) (h : fmHp) {h0 : fmHp} {d g sl se pl pe : Nat} {gf sf pf : Nat → Nat} {N : Nat → Int32} {K pk : Nat} (hC0 : CC G h0) (hM : MineAt G h d g sl se pl pe gf sf pf N K pk) (hD : Dr G h0 h d g sl se pl pe) (o a : Nat) (fl : Bool) (f : Nat → Int32) (ha : h a = some (fl, .inl (0, 1, .inl f))) (hR : RV N K pk)  : Ct G yX22_done (ws_ yX22_done cX22_done 3 (some .int)) { frames := 9, cells := 65, slots := 67, locals := 168 } [.ref o, .ref d, .ref a] h (dPost G h0 d g sl pl (aClose N (f 0) K)) (dXp h0 (aClose N (f 0) K)) := by
  refine Ct.of hl (by decide +kernel) (Nat.le_of_ble_eq_true rfl) (fun Γ E P => ?_)
  have hC : CC G h := hC0.kp hD.1
  obtain ⟨hd, ⟨gq, hg, hgq⟩, hgd, hS, hSh, hP, hPk, hK8, hP6, hsp, hse⟩ := id hM
  obtain ⟨mcS, hsl⟩ := hS.o
  obtain ⟨mcP, hpl⟩ := hP.o
  obtain ⟨hk0, hd0, hg0, hsl0, hpl0, hse0, hpe0⟩ := id hD
  obtain ⟨feS, capS, geS, hseA⟩ := hS.el
  obtain ⟨feP, capP, geP, hpeA⟩ := hP.el
  refine r_aload_n E dX22_done_0 rfl ?_
  refine r_aload_n E dX22_done_1 rfl ?_
  refine r_iconst E (nI 0) dX22_done_2 (by decide) ?_
  refine r_iald E ha (by decide) (by decide) dX22_done_3 ?_
  refine r_callV E (ct_X2_close G hl _ hC0 hM hD (f 0) hR) mX2_close q949 q950 q951 (fun H a1 => fm_rc (ci := 2) (C := RX2) (T := TX2) (N := 7) a1 rfl E.v hd) rfl rfl (Nat.le_of_ble_eq_true rfl) (Nat.le_of_ble_eq_true rfl) (Nat.le_of_ble_eq_true rfl) dX22_done_4 0 0 (Nat.le_of_ble_eq_true rfl) (Nat.le_of_ble_eq_true rfl) (fun v' h1 q => ?_) (fun q Ex h' hx => ?_)
  · obtain ⟨q1, rfl, q3⟩ := q
    exact r_ireturn E P rfl dX22_done_7 (dPost.eq rfl ⟨q1, rfl, q3⟩)
  · exact r_xout E P (fun x hx => by cases hx) (dXp.eq rfl hx)

set_option maxHeartbeats 4000000 in
theorem ct_X19_done (G : fmG) (hl : (fmLn G).stackTraces = false) (h : fmHp) {h0 : fmHp} {d g sl se pl pe : Nat} {gf sf pf : Nat → Nat} {N : Nat → Int32} {K pk : Nat} (hC0 : CC G h0) (hM : MineAt G h d g sl se pl pe gf sf pf N K pk) (hD : Dr G h0 h d g sl se pl pe) (o a : Nat) (fl : Bool) (f : Nat → Int32) (ha : h a = some (fl, .inl (0, 3, .inl f))) (hR : RV N K pk)  : Ct G yX19_done (ws_ yX19_done cX19_done 3 (some .int)) { frames := 9, cells := 5, slots := 216, locals := 185 } [.ref o, .ref d, .ref a] h (dPost G h0 d g sl pl (aDig N (f 0) (f 1) (decide (0 < f 2)) K pk)) (dXp h0 (aDig N (f 0) (f 1) (decide (0 < f 2)) K pk)) := by
  refine Ct.of hl (by decide +kernel) (Nat.le_of_ble_eq_true rfl) (fun Γ E P => ?_)
  have hC : CC G h := hC0.kp hD.1
  obtain ⟨hd, ⟨gq, hg, hgq⟩, hgd, hS, hSh, hP, hPk, hK8, hP6, hsp, hse⟩ := id hM
  obtain ⟨mcS, hsl⟩ := hS.o
  obtain ⟨mcP, hpl⟩ := hP.o
  obtain ⟨hk0, hd0, hg0, hsl0, hpl0, hse0, hpe0⟩ := id hD
  obtain ⟨feS, capS, geS, hseA⟩ := hS.el
  obtain ⟨feP, capP, geP, hpeA⟩ := hP.el
  refine r_aload_n E dX19_done_0 rfl ?_
  refine r_aload_n E dX19_done_1 rfl ?_
  refine r_iconst E (nI 0) dX19_done_2 (by decide) ?_
  refine r_iald E ha (by decide) (by decide) dX19_done_3 ?_
  refine r_aload_n E dX19_done_4 rfl ?_
  refine r_iconst E (nI 1) dX19_done_5 (by decide) ?_
  refine r_iald E ha (by decide) (by decide) dX19_done_6 ?_
  refine r_aload_n E dX19_done_7 rfl ?_
  refine r_iconst E (nI 2) dX19_done_8 (by decide) ?_
  refine r_iald E ha (by decide) (by decide) dX19_done_9 ?_
  refine r_if_le (tgt := 17) E dX19_done_10 (by decide) (fun c1 => ?_) (fun c1 => ?_)
  · refine r_iconst E (nI 0) dX19_done_17 (by decide) ?_
    refine r_top (v' := .int (bI false)) rfl ?_
    have hd2 : decide (0 < f 2) = false := decide_eq_false (Int32.not_lt.mpr c1)
    refine r_callV E (ct_X2_dig G hl _ hC0 hM hD (f 0) (f 1) false hR) mX2_dig q904 q905 q906 (fun H a1 => fm_rc (ci := 2) (C := RX2) (T := TX2) (N := 7) a1 rfl E.v hd) rfl rfl (Nat.le_of_ble_eq_true rfl) (Nat.le_of_ble_eq_true rfl) (Nat.le_of_ble_eq_true rfl) dX19_done_18 0 0 (Nat.le_of_ble_eq_true rfl) (Nat.le_of_ble_eq_true rfl) (fun v' h1 q => ?_) (fun q Ex h' hx => ?_)
    · obtain ⟨q1, rfl, q3⟩ := q
      exact r_ireturn E P rfl dX19_done_21 (dPost.eq (by rw [hd2]) ⟨q1, rfl, q3⟩)
    · exact r_xout E P (fun x hx => by cases hx) (dXp.eq (by rw [hd2]) hx)
  · refine r_iconst E (nI 1) dX19_done_13 (by decide) ?_
    refine r_goto (tgt := 18) E dX19_done_14 (by decide) ?_
    refine r_top (v' := .int (bI true)) rfl ?_
    have hd2 : decide (0 < f 2) = true := decide_eq_true (Int32.not_le.mp c1)
    refine r_callV E (ct_X2_dig G hl _ hC0 hM hD (f 0) (f 1) true hR) mX2_dig q904 q905 q906 (fun H a1 => fm_rc (ci := 2) (C := RX2) (T := TX2) (N := 7) a1 rfl E.v hd) rfl rfl (Nat.le_of_ble_eq_true rfl) (Nat.le_of_ble_eq_true rfl) (Nat.le_of_ble_eq_true rfl) dX19_done_18 0 0 (Nat.le_of_ble_eq_true rfl) (Nat.le_of_ble_eq_true rfl) (fun v' h1 q => ?_) (fun q Ex h' hx => ?_)
    · obtain ⟨q1, rfl, q3⟩ := q
      exact r_ireturn E P rfl dX19_done_21 (dPost.eq (by rw [hd2]) ⟨q1, rfl, q3⟩)
    · exact r_xout E P (fun x hx => by cases hx) (dXp.eq (by rw [hd2]) hx)

set_option maxHeartbeats 4000000 in
theorem ct_X14_done (G : fmG) (hl : (fmLn G).stackTraces = false) (h : fmHp) {h0 : fmHp} {d g sl se pl pe : Nat} {gf sf pf : Nat → Nat} {N : Nat → Int32} {K pk : Nat} (hC0 : CC G h0) (hM : MineAt G h d g sl se pl pe gf sf pf N K pk) (hD : Dr G h0 h d g sl se pl pe) (o a : Nat) (fl : Bool) (f : Nat → Int32) (ha : h a = some (fl, .inl (0, 3, .inl f))) (hR : RV N K pk) (c : Nat) (hc : c < 64) (hf : f 0 = nI c) : Ct G yX14_done (ws_ yX14_done cX14_done 4 (some .int)) { frames := 7, cells := 3, slots := 12, locals := 156 } [.ref o, .ref d, .ref a] h (dPost G h0 d g sl pl (aRock N (f 0) (f 1) (f 2))) (dXp h0 (aRock N (f 0) (f 1) (f 2))) := by
  refine Ct.of hl (by decide +kernel) (Nat.le_of_ble_eq_true rfl) (fun Γ E P => ?_)
  have hC : CC G h := hC0.kp hD.1
  obtain ⟨hd, ⟨gq, hg, hgq⟩, hgd, hS, hSh, hP, hPk, hK8, hP6, hsp, hse⟩ := id hM
  obtain ⟨mcS, hsl⟩ := hS.o
  obtain ⟨mcP, hpl⟩ := hP.o
  obtain ⟨hk0, hd0, hg0, hsl0, hpl0, hse0, hpe0⟩ := id hD
  obtain ⟨feS, capS, geS, hseA⟩ := hS.el
  obtain ⟨feP, capP, geP, hpeA⟩ := hP.el
  have hg1 : (!sBetween (f 0) (nI 0) (nI 63)) = false := by rw [hf, sCell_n hc]; rfl
  refine r_aload_n E dX14_done_0 rfl ?_
  refine r_iconst E (nI 0) dX14_done_1 (by decide) ?_
  refine r_iald E ha (by decide) (by decide) dX14_done_2 ?_
  refine r_top (v' := .int (nI c)) (congrArg Value.int hf) ?_
  refine r_istore_n E [some (.ref o), some (.ref d), some (.ref a), some (.int (nI c))] dX14_done_3 rfl rfl ?_
  refine r_iconst E (nI 2) dX14_done_4 (by decide) ?_
  refine r_newa E 5 (.inl (fun _ => 0)) rfl (z_ab 2) q681 (fun e => e) (Nat.le_of_ble_eq_true rfl) (Nat.le_of_ble_eq_true rfl) 2 10 (Nat.le_of_ble_eq_true rfl) (Nat.le_of_ble_eq_true rfl) dX14_done_5 (fun b1 hb1 kb1 => ?_)
  refine r_dup E dX14_done_7 rfl ?_
  refine r_iconst E (nI 0) dX14_done_8 (by decide) ?_
  refine r_aload_n E dX14_done_9 rfl ?_
  refine r_iconst E (nI 1) dX14_done_10 (by decide) ?_
  refine r_iald E (fmUp_of ha hb1) (by decide) (by decide) dX14_done_11 ?_
  refine r_iconst E (nI 1) dX14_done_12 (by decide) ?_
  refine r_bipush E (nI 9) dX14_done_13 (by decide) ?_
  refine r_callSN1 (v1 := .int (bI (sBetween (f 1) (nI 1) (nI 9)))) E (ct_X1_inRange G hl (fmUp h b1 (true, .inl (5, 2, .inl (fun _ => 0)))) (f 1) (nI 1) (nI 9)) mX1_inRange q78 q662 q629 rfl rfl (Nat.le_of_ble_eq_true rfl) (Nat.le_of_ble_eq_true rfl) (Nat.le_of_ble_eq_true rfl) dX14_done_15 2 10 (Nat.le_of_ble_eq_true rfl) (Nat.le_of_ble_eq_true rfl) ?_
  refine r_zast E fmUp_s (by decide) (by decide) dX14_done_18 ?_
  refine r_hp (h' := fmUp h b1 (true, .inl (5, 2, .inl (upd (fun _ => 0) 0 (bI (sBetween (f 1) (nI 1) (nI 9))))))) (fmUp_uu _ _ _ _) ?_
  refine r_dup E dX14_done_19 rfl ?_
  refine r_iconst E (nI 1) dX14_done_20 (by decide) ?_
  refine r_aload_n E dX14_done_21 rfl ?_
  refine r_iconst E (nI 2) dX14_done_22 (by decide) ?_
  refine r_iald E (fmUp_of ha hb1) (by decide) (by decide) dX14_done_23 ?_
  refine r_iconst E (nI 0) dX14_done_24 (by decide) ?_
  refine r_bipush E (nI 9) dX14_done_25 (by decide) ?_
  refine r_callSN1 (v1 := .int (bI (sBetween (f 2) (nI 0) (nI 9)))) E (ct_X1_inRange G hl (fmUp h b1 (true, .inl (5, 2, .inl (upd (fun _ => 0) 0 (bI (sBetween (f 1) (nI 1) (nI 9))))))) (f 2) (nI 0) (nI 9)) mX1_inRange q78 q662 q629 rfl rfl (Nat.le_of_ble_eq_true rfl) (Nat.le_of_ble_eq_true rfl) (Nat.le_of_ble_eq_true rfl) dX14_done_27 2 10 (Nat.le_of_ble_eq_true rfl) (Nat.le_of_ble_eq_true rfl) ?_
  refine r_zast E fmUp_s (by decide) (by decide) dX14_done_30 ?_
  refine r_hp (h' := fmUp h b1 (true, .inl (5, 2, .inl (upd (upd (fun _ => 0) 0 (bI (sBetween (f 1) (nI 1) (nI 9)))) 1 (bI (sBetween (f 2) (nI 0) (nI 9))))))) (fmUp_uu _ _ _ _) ?_
  cases e1 : sBetween (f 1) (nI 1) (nI 9) with
  | false =>
    have hr : aRock N (f 0) (f 1) (f 2) = aThr 2 := by unfold aRock; rw [aG_f hg1, e1]; rfl
    refine r_callSN E (ctFa_X1_require G hl _ b1 _ fmUp_s _ rfl rfl) mX1_require q78 q663 q664 rfl rfl (Nat.le_of_ble_eq_true rfl) (Nat.le_of_ble_eq_true rfl) (Nat.le_of_ble_eq_true rfl) dX14_done_31 0 0 (Nat.le_of_ble_eq_true rfl) (Nat.le_of_ble_eq_true rfl) (fun _ _ q => q.elim) (fun q Ex h' hx => ?_)
    exact r_xout E P (fun x hx => by cases hx) (dXp.ia (hk0.trans (Kp.up hb1)) hr hx)
  | true =>
    cases e2 : sBetween (f 2) (nI 0) (nI 9) with
    | false =>
      have hr : aRock N (f 0) (f 1) (f 2) = aThr 2 := by unfold aRock; rw [aG_f hg1, e1, e2]; rfl
      refine r_callSN E (ctFb_X1_require G hl _ b1 _ fmUp_s rfl rfl) mX1_require q78 q663 q664 rfl rfl (Nat.le_of_ble_eq_true rfl) (Nat.le_of_ble_eq_true rfl) (Nat.le_of_ble_eq_true rfl) dX14_done_31 0 0 (Nat.le_of_ble_eq_true rfl) (Nat.le_of_ble_eq_true rfl) (fun _ _ q => q.elim) (fun q Ex h' hx => ?_)
      exact r_xout E P (fun x hx => by cases hx) (dXp.ia (hk0.trans (Kp.up hb1)) hr hx)
    | true =>
      refine r_callSN0 E (ctT2_X1_require G hl (_) b1 _ fmUp_s rfl rfl) mX1_require q78 q663 q664 rfl rfl (Nat.le_of_ble_eq_true rfl) (Nat.le_of_ble_eq_true rfl) (Nat.le_of_ble_eq_true rfl) dX14_done_31 2 10 (Nat.le_of_ble_eq_true rfl) (Nat.le_of_ble_eq_true rfl) ?_
      have hM1 := hM.kp (Kp.up (e := (true, .inl (5, 2, .inl (upd (upd (fun _ => 0) 0 (bI true)) 1 (bI true))))) hb1)
      have hD1 := hD.kp (Kp.up (e := (true, .inl (5, 2, .inl (upd (upd (fun _ => 0) 0 (bI true)) 1 (bI true))))) hb1)
      refine r_aload_n E dX14_done_34 rfl ?_
      refine r_iload_n E dX14_done_35 rfl ?_
      refine r_new E cl_X3 [.int 0, .int 0] q682 q168 q83 (by decide) 1 8 (Nat.le_of_ble_eq_true rfl) (Nat.le_of_ble_eq_true rfl) dX14_done_36 (fun a2 ha2 ka2 => ?_)
      refine r_dup E dX14_done_39 rfl ?_
      refine r_aload_n E dX14_done_40 rfl ?_
      refine r_iconst E (nI 1) dX14_done_41 (by decide) ?_
      refine r_iald E (fmUp_of (fmUp_of ha hb1) ha2) (by decide) (by decide) dX14_done_42 ?_
      refine r_aload_n E dX14_done_43 rfl ?_
      refine r_iconst E (nI 2) dX14_done_44 (by decide) ?_
      refine r_iald E (fmUp_of (fmUp_of ha hb1) ha2) (by decide) (by decide) dX14_done_45 ?_
      refine r_callI0 E (ct_X3_init_2 G hl (fmUp (fmUp h b1 (true, .inl (5, 2, .inl (upd (upd (fun _ => 0) 0 (bI true)) 1 (bI true))))) a2 (true, .inr (.inl (3, [.int 0, .int 0])))) a2 (f 1) (f 2) fmUp_s) mX3_init_2 rfl q683 q173 rfl rfl (Nat.le_of_ble_eq_true rfl) (Nat.le_of_ble_eq_true rfl) (Nat.le_of_ble_eq_true rfl) dX14_done_46 1 8 (Nat.le_of_ble_eq_true rfl) (Nat.le_of_ble_eq_true rfl) ?_
      refine r_hp (h' := fmUp (fmUp h b1 (true, .inl (5, 2, .inl (upd (upd (fun _ => 0) 0 (bI true)) 1 (bI true))))) a2 (true, .inr (.inl (3, [.int (f 1), .int (f 2)])))) (fmUp_uu _ _ _ _) ?_
      have hM2 := hM1.kp (Kp.up (e := (true, .inr (.inl (3, [.int (f 1), .int (f 2)])))) ha2)
      have hD2 := hD1.kp (Kp.up (e := (true, .inr (.inl (3, [.int (f 1), .int (f 2)])))) ha2)
      refine r_callV E (ct_X2_setRock G hl _ hC0 hM2 hD2 c a2 (f 1) (f 2) hc fmUp_s hR (by rw [e1, e2]; rfl)) mX2_setRock q684 q685 q686 (fun H a1 => fm_rc (ci := 2) (C := RX2) (T := TX2) (N := 7) a1 rfl E.v (fmUp_of (fmUp_of hd hb1) ha2)) rfl rfl (Nat.le_of_ble_eq_true rfl) (Nat.le_of_ble_eq_true rfl) (Nat.le_of_ble_eq_true rfl) dX14_done_49 0 0 (Nat.le_of_ble_eq_true rfl) (Nat.le_of_ble_eq_true rfl) (fun v' h1 q => ?_) (fun q Ex h' hx => ?_)
      · obtain ⟨q1, rfl, q3⟩ := q
        exact r_ireturn E P rfl dX14_done_52 (dPost.eq (by rw [hf]) ⟨q1, rfl, q3⟩)
      · exact r_xout E P (fun x hx => by cases hx) (dXp.eq (by rw [hf]) hx)

