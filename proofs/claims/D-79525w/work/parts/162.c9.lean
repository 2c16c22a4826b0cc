set_option maxHeartbeats 4000000 in
theorem ctF_X2_open (G : fmG) (hl : (fmLn G).stackTraces = false) (h : fmHp) {h0 : fmHp} {d g sl se pl pe : Nat} {gf sf pf : Nat → Nat} {N : Nat → Int32} {K pk : Nat} (hC0 : CC G h0) (hM : MineAt G h d g sl se pl pe gf sf pf N K pk) (hD : Dr G h0 h d g sl se pl pe) (c a : Nat) (s : Int32) (p : Bool) (hc : c < 64) (h0c : N c = nI 0) (ha : h a = some (true, .inr (.inl (4, [.int s, .int (bI p)])))) (hx : sPickK N (sStrokes N c) pk = none) : Ct G yX2_open (ws_ yX2_open cX2_open 5 (some .int)) { frames := 5, cells := 1, slots := 8, locals := 133 } [.ref d, .int (nI c), .ref a] h (fun _ _ => False) (fun q Ex h' => Ex = "FlintMine$Refusal" ∧ h q = none ∧ (fmK0 G).size ≤ q ∧ h' = fmUp h q (true, .inr (.inl (10, [.null, .null, .null, .null, .null, .int 0, .int (nI 5), .int (sStrokes N c)])))) := by
  refine Ct.of hl (by decide +kernel) (Nat.le_of_ble_eq_true rfl) (fun Γ E P => ?_)
  have hC : CC G h := hC0.kp hD.1
  obtain ⟨hd, ⟨gq, hg, hgq⟩, hgd, hS, hSh, hP, hPk, hK8, hP6, hsp, hse⟩ := id hM
  obtain ⟨mcS, hsl⟩ := hS.o
  obtain ⟨mcP, hpl⟩ := hP.o
  obtain ⟨hk0, hd0, hg0, hsl0, hpl0, hse0, hpe0⟩ := id hD
  obtain ⟨feS, capS, geS, hseA⟩ := hS.el
  obtain ⟨feP, capP, geP, hpeA⟩ := hP.el
  obtain ⟨hcb, hcc, hco⟩ : N (192 + c) = -1 ∧ N (256 + c) = nI 0 ∧ h (gf c) = some (true, .inr (.inl (3, [.int (N (64 + c)), .int (N (128 + c))]))) := by
    rcases hgd c hc with ⟨_, q2, q3, q4⟩ | ⟨p, q1, q2, q4⟩ | ⟨q1, q2, q4⟩
    · exact ⟨q2, q3, q4⟩
    · rw [h0c] at q1; exact absurd q1 (by decide)
    · rw [h0c] at q1; exact absurd q1 (by decide)
  refine r_aload_n E dX2_open_0 rfl ?_
  refine r_iload_n E dX2_open_1 rfl ?_
  refine r_callV1 (v1 := .ref (gf c)) E (ctT_X2_chalk G hl (h) hC hM c hc h0c) mX2_chalk q688 q690 qs7 (fun H a1 => fm_rc (ci := 2) (C := RX2) (T := TX2) (N := 7) a1 rfl E.v hd) rfl rfl (Nat.le_of_ble_eq_true rfl) (Nat.le_of_ble_eq_true rfl) (Nat.le_of_ble_eq_true rfl) dX2_open_2 1 8 (Nat.le_of_ble_eq_true rfl) (Nat.le_of_ble_eq_true rfl) ?_
  refine r_astore_n E [some (.ref d), some (.int (nI c)), some (.ref a), some (.ref (gf c)), none] dX2_open_5 rfl rfl ?_
  refine r_aload_n E dX2_open_6 rfl ?_
  refine r_aload_n E dX2_open_7 rfl ?_
  refine r_callV1 (v1 := .int (nI 2 * (N (64 + c)) + (N (128 + c)))) E (ct_X3_strokes G hl (h) (gf c) true (N (64 + c)) (N (128 + c)) hco) mX3_strokes q720 q721 q722 (fun H a1 => fm_rc (ci := 3) (C := RX3) (T := TX3) (N := 2) a1 rfl E.v hco) rfl rfl (Nat.le_of_ble_eq_true rfl) (Nat.le_of_ble_eq_true rfl) (Nat.le_of_ble_eq_true rfl) dX2_open_8 1 8 (Nat.le_of_ble_eq_true rfl) (Nat.le_of_ble_eq_true rfl) ?_
  refine r_top (v' := .int (sStrokes N c)) (rfl) ?_
  refine r_callV1 (v1 := .int (cI (sPickK N (sStrokes N c) pk))) E (ct_X2_pickFor G hl (h) hC hM (sStrokes N c)) mX2_pickFor q824 q825 q826 (fun H a1 => fm_rc (ci := 2) (C := RX2) (T := TX2) (N := 7) a1 rfl E.v hd) rfl rfl (Nat.le_of_ble_eq_true rfl) (Nat.le_of_ble_eq_true rfl) (Nat.le_of_ble_eq_true rfl) dX2_open_11 1 8 (Nat.le_of_ble_eq_true rfl) (Nat.le_of_ble_eq_true rfl) ?_
  refine r_istore E [some (.ref d), some (.int (nI c)), some (.ref a), some (.ref (gf c)), some (.int (cI (sPickK N (sStrokes N c) pk)))] dX2_open_14 rfl rfl ?_
  refine r_iload E dX2_open_16 rfl ?_
  refine r_iconst E (-1) dX2_open_18 (by decide) ?_
  refine r_icmpC_eq (tgt := 26) E dX2_open_19 (by decide) (sPickK_31 (by omega)) (fun c1 => ?_) (fun c1 => ?_)
  · refine r_iconst E (nI 0) dX2_open_26 (by decide) ?_
    refine r_iconst E (nI 5) dX2_open_27 (by decide) ?_
    refine r_aload_n E dX2_open_28 rfl ?_
    refine r_callV1 (v1 := .int (nI 2 * (N (64 + c)) + (N (128 + c)))) E (ct_X3_strokes G hl (h) (gf c) true (N (64 + c)) (N (128 + c)) hco) mX3_strokes q720 q721 q722 (fun H a1 => fm_rc (ci := 3) (C := RX3) (T := TX3) (N := 2) a1 rfl E.v hco) rfl rfl (Nat.le_of_ble_eq_true rfl) (Nat.le_of_ble_eq_true rfl) (Nat.le_of_ble_eq_true rfl) dX2_open_29 1 8 (Nat.le_of_ble_eq_true rfl) (Nat.le_of_ble_eq_true rfl) ?_
    refine r_top (v' := .int (sStrokes N c)) (rfl) ?_
    refine r_callSN E (ctF_X1_allow G hl h (nI 5) (sStrokes N c)) mX1_allow q78 q734 q735 rfl rfl (Nat.le_of_ble_eq_true rfl) (Nat.le_of_ble_eq_true rfl) (Nat.le_of_ble_eq_true rfl) dX2_open_32 0 0 (Nat.le_of_ble_eq_true rfl) (Nat.le_of_ble_eq_true rfl) (fun _ _ q => q.elim) (fun q Ex h' hx => ?_)
    exact r_xout E P (fun x hx => by cases hx) hx
  · exact absurd hx c1

set_option maxHeartbeats 4000000 in
theorem ctT_X2_open (G : fmG) (hl : (fmLn G).stackTraces = false) (h : fmHp) {h0 : fmHp} {d g sl se pl pe : Nat} {gf sf pf : Nat → Nat} {N : Nat → Int32} {K pk : Nat} (hC0 : CC G h0) (hM : MineAt G h d g sl se pl pe gf sf pf N K pk) (hD : Dr G h0 h d g sl se pl pe) (c a : Nat) (s : Int32) (p : Bool) (hc : c < 64) (h0c : N c = nI 0) (ha : h a = some (true, .inr (.inl (4, [.int s, .int (bI p)])))) (hR : RV N K pk) (x : Nat) (hx : sPickK N (sStrokes N c) pk = some x) : Ct G yX2_open (ws_ yX2_open cX2_open 5 (some .int)) { frames := 5, cells := 0, slots := 0, locals := 133 } [.ref d, .int (nI c), .ref a] h (fun v h' => v = some (.int (N (128 + c))) ∧ ∃ (pe' : Nat) (gf' pf' : Nat → Nat), MineAt G h' d g sl se pl pe' gf' sf pf' (oRow N c s p pk) K (oPk N c pk) ∧ Dr G h0 h' d g sl se pl pe' ∧ Ko h h') fmNo := by
  refine Ct.of hl (by decide +kernel) (Nat.le_of_ble_eq_true rfl) (fun Γ E P => ?_)
  have hC : CC G h := hC0.kp hD.1
  obtain ⟨hd, ⟨gq, hg, hgq⟩, hgd, hS, hSh, hP, hPk, hK8, hP6, hsp, hse⟩ := id hM
  obtain ⟨mcS, hsl⟩ := hS.o
  obtain ⟨mcP, hpl⟩ := hP.o
  obtain ⟨hk0, hd0, hg0, hsl0, hpl0, hse0, hpe0⟩ := id hD
  obtain ⟨feS, capS, geS, hseA⟩ := hS.el
  obtain ⟨feP, capP, geP, hpeA⟩ := hP.el
  obtain ⟨hcb, hcc, hco⟩ : N (192 + c) = -1 ∧ N (256 + c) = nI 0 ∧ h (gf c) = some (true, .inr (.inl (3, [.int (N (64 + c)), .int (N (128 + c))]))) := by
    rcases hgd c hc with ⟨_, q2, q3, q4⟩ | ⟨p, q1, q2, q4⟩ | ⟨q1, q2, q4⟩
    · exact ⟨q2, q3, q4⟩
    · rw [h0c] at q1; exact absurd q1 (by decide)
    · rw [h0c] at q1; exact absurd q1 (by decide)
  obtain ⟨hj, hxp, e, n, he, hs, hn, hn1, he9, hn27, hpkE⟩ := hR.strike hc hx
  refine r_aload_n E dX2_open_0 rfl ?_
  refine r_iload_n E dX2_open_1 rfl ?_
  refine r_callV1 (v1 := .ref (gf c)) E (ctT_X2_chalk G hl (h) hC hM c hc h0c) mX2_chalk q688 q690 qs7 (fun H a1 => fm_rc (ci := 2) (C := RX2) (T := TX2) (N := 7) a1 rfl E.v hd) rfl rfl (Nat.le_of_ble_eq_true rfl) (Nat.le_of_ble_eq_true rfl) (Nat.le_of_ble_eq_true rfl) dX2_open_2 0 0 (Nat.le_of_ble_eq_true rfl) (Nat.le_of_ble_eq_true rfl) ?_
  refine r_astore_n E [some (.ref d), some (.int (nI c)), some (.ref a), some (.ref (gf c)), none] dX2_open_5 rfl rfl ?_
  refine r_aload_n E dX2_open_6 rfl ?_
  refine r_aload_n E dX2_open_7 rfl ?_
  refine r_callV1 (v1 := .int (nI 2 * (N (64 + c)) + (N (128 + c)))) E (ct_X3_strokes G hl (h) (gf c) true (N (64 + c)) (N (128 + c)) hco) mX3_strokes q720 q721 q722 (fun H a1 => fm_rc (ci := 3) (C := RX3) (T := TX3) (N := 2) a1 rfl E.v hco) rfl rfl (Nat.le_of_ble_eq_true rfl) (Nat.le_of_ble_eq_true rfl) (Nat.le_of_ble_eq_true rfl) dX2_open_8 0 0 (Nat.le_of_ble_eq_true rfl) (Nat.le_of_ble_eq_true rfl) ?_
  refine r_top (v' := .int (sStrokes N c)) (rfl) ?_
  refine r_callV1 (v1 := .int (cI (sPickK N (sStrokes N c) pk))) E (ct_X2_pickFor G hl (h) hC hM (sStrokes N c)) mX2_pickFor q824 q825 q826 (fun H a1 => fm_rc (ci := 2) (C := RX2) (T := TX2) (N := 7) a1 rfl E.v hd) rfl rfl (Nat.le_of_ble_eq_true rfl) (Nat.le_of_ble_eq_true rfl) (Nat.le_of_ble_eq_true rfl) dX2_open_11 0 0 (Nat.le_of_ble_eq_true rfl) (Nat.le_of_ble_eq_true rfl) ?_
  refine r_istore E [some (.ref d), some (.int (nI c)), some (.ref a), some (.ref (gf c)), some (.int (cI (sPickK N (sStrokes N c) pk)))] dX2_open_14 rfl rfl ?_
  refine r_iload E dX2_open_16 rfl ?_
  refine r_iconst E (-1) dX2_open_18 (by decide) ?_
  refine r_icmpC_eq (tgt := 26) E dX2_open_19 (by decide) (sPickK_31 (by omega)) (fun c1 => ?_) (fun c1 => ?_)
  · rw [hx] at c1; cases c1
  · refine r_iconst E (nI 1) dX2_open_22 (by decide) ?_
    refine r_goto (tgt := 27) E dX2_open_23 (by decide) ?_
    refine r_iconst E (nI 5) dX2_open_27 (by decide) ?_
    refine r_aload_n E dX2_open_28 rfl ?_
    refine r_callV1 (v1 := .int (nI 2 * (N (64 + c)) + (N (128 + c)))) E (ct_X3_strokes G hl (h) (gf c) true (N (64 + c)) (N (128 + c)) hco) mX3_strokes q720 q721 q722 (fun H a1 => fm_rc (ci := 3) (C := RX3) (T := TX3) (N := 2) a1 rfl E.v hco) rfl rfl (Nat.le_of_ble_eq_true rfl) (Nat.le_of_ble_eq_true rfl) (Nat.le_of_ble_eq_true rfl) dX2_open_29 0 0 (Nat.le_of_ble_eq_true rfl) (Nat.le_of_ble_eq_true rfl) ?_
    refine r_top (v' := .int (sStrokes N c)) (rfl) ?_
    refine r_callSN0 E (ctT_X1_allow G hl (h) (nI 5) (sStrokes N c)) mX1_allow q78 q734 q735 rfl rfl (Nat.le_of_ble_eq_true rfl) (Nat.le_of_ble_eq_true rfl) (Nat.le_of_ble_eq_true rfl) dX2_open_32 0 0 (Nat.le_of_ble_eq_true rfl) (Nat.le_of_ble_eq_true rfl) ?_
    refine r_aload_n E dX2_open_35 rfl ?_
    refine r_iload E dX2_open_36 rfl ?_
    refine r_top (v' := .int (nI x)) (congrArg Value.int (by rw [hx]; rfl)) ?_
    refine r_aload_n E dX2_open_38 rfl ?_
    refine r_callV1 (v1 := .int (nI 2 * (N (64 + c)) + (N (128 + c)))) E (ct_X3_strokes G hl (h) (gf c) true (N (64 + c)) (N (128 + c)) hco) mX3_strokes q720 q721 q722 (fun H a1 => fm_rc (ci := 3) (C := RX3) (T := TX3) (N := 2) a1 rfl E.v hco) rfl rfl (Nat.le_of_ble_eq_true rfl) (Nat.le_of_ble_eq_true rfl) (Nat.le_of_ble_eq_true rfl) dX2_open_39 0 0 (Nat.le_of_ble_eq_true rfl) (Nat.le_of_ble_eq_true rfl) ?_
    refine r_top (v' := .int (nI n)) (congrArg Value.int hs) ?_
    refine r_callV E (ct_X2_wear G hl h hC0 hM hD x e n hxp he hn hn1 he9) mX2_wear q851 q853 qs10 (fun H a1 => fm_rc (ci := 2) (C := RX2) (T := TX2) (N := 7) a1 rfl E.v hd) rfl rfl (Nat.le_of_ble_eq_true rfl) (Nat.le_of_ble_eq_true rfl) (Nat.le_of_ble_eq_true rfl) dX2_open_42 0 0 (Nat.le_of_ble_eq_true rfl) (Nat.le_of_ble_eq_true rfl) (fun v' h1 q => ?_) (fun _ _ _ q => q.elim)
    obtain ⟨rfl, pe1, pf1, hM1, hD1, ho1⟩ := q
    rw [← hs, ← hj, show sStrike N (oJ N c pk) (sStrokes N c) pk = oW N c pk from rfl, ← hpkE] at hM1
    have hC1 : CC G h1 := hC0.kp hD1.1
    obtain ⟨hd1, ⟨gq1, hg1, hgq1⟩, hgd1, hS1, hSh1, hP1, hPk1, hK81, hP61, hsp1, hse1⟩ := id hM1
    obtain ⟨mcS1, hsl1⟩ := hS1.o
    obtain ⟨mcP1, hpl1⟩ := hP1.o
    obtain ⟨feS1, capS1, geS1, hseA1⟩ := hS1.el
    obtain ⟨feP1, capP1, geP1, hpeA1⟩ := hP1.el
    obtain ⟨hk01, hd01, hg01, hsl01, hpl01, hse01, hpe01⟩ := id hD1
    have ha1 := ho1 _ _ _ _ ha (by decide) (by decide)
    have hco1 := ho1 _ _ _ _ hco (by decide) (by decide)
    refine r_aload_n E dX2_open_45 rfl ?_
    refine r_dup E dX2_open_46 rfl ?_
    refine r_getf E cl_X2 5 (by decide) q195 hd1 rfl dX2_open_47 ?_
    refine r_iconst E (nI 1) dX2_open_50 (by decide) ?_
    refine r_iadd E dX2_open_51 ?_
    refine r_putf E cl_X2 5 (by decide) rfl q195 (fun _ z => z) hd1 (Nat.le_of_ble_eq_true rfl) rfl rfl dX2_open_52 ?_
    refine r_hp (h' := fmUp h1 d (true, .inr (.inl (2, [.ref g, .ref sl, .ref pl, .int ((oW N c pk) 355), .int ((oW N c pk) 352), .int (((oW N c pk) 353) + (nI 1)), .int ((oW N c pk) 354)])))) (rfl) ?_
    refine r_aload_n E dX2_open_55 rfl ?_
    refine r_getf E cl_X2 0 (by decide) q185 fmUp_s rfl dX2_open_56 ?_
    refine r_iload_n E dX2_open_59 rfl ?_
    refine r_aload_n E dX2_open_60 rfl ?_
    have hM2 := hM1.setd (N' := upd (oW N c pk) 353 (oW N c pk 353 + nI 1)) (fun q hq => upd_ne' (by omega))
    rw [upd_ne' (j := 355) (by decide), upd_ne' (j := 352) (by decide), upd_eq' (j := 353) rfl, upd_ne' (j := 354) (by decide)] at hM2
    have ha2 := (fmUp_n (e := (true, .inr (.inl (2, [.ref g, .ref sl, .ref pl, .int ((oW N c pk) 355), .int ((oW N c pk) 352), .int (((oW N c pk) 353) + (nI 1)), .int ((oW N c pk) 354)])))) (fun z => by rw [z, hd1] at ha1; cases ha1)).trans ha1
    have hg2 := (fmUp_n (e := (true, .inr (.inl (2, [.ref g, .ref sl, .ref pl, .int ((oW N c pk) 355), .int ((oW N c pk) 352), .int (((oW N c pk) 353) + (nI 1)), .int ((oW N c pk) 354)])))) (fun z => by rw [z, hd1] at hg1; cases hg1)).trans hg1
    refine r_aast E (t := 7) (Ev := "FlintMine$Ground") rfl (fun H a1 => fm_rc a1 cl_X6.1 E.v ha2) q322 hg2 hc (by decide) dX2_open_61 ?_
    have hM3 := hM2.setg hg2 hgq1 hc (a := a) (N' := oRow N c s p pk) (Or.inr (Or.inl ⟨p, oRow_c, oRow_p, by rw [oRow_s]; exact ha2⟩)) (fun q q1 q2 q3 q4 q5 => by unfold oRow; rw [upd_ne' q5, upd_ne' q4, upd_ne' q1])
    refine r_aload_n E dX2_open_62 rfl ?_
    refine r_getfN E cl_X3 1 (by decide) q179 ((fmUp_n (fun z => by rw [z, hg1] at hco1; cases hco1)).trans ((fmUp_n (fun z => by rw [z, hd1] at hco1; cases hco1)).trans hco1)) rfl dX2_open_63 ?_
    exact r_ireturn E P rfl dX2_open_66 ⟨rfl, pe1, _, pf1, hM3, ⟨(hk01.up0 hd01).up0 hg01, hd01, hg01, hsl01, hpl01, hse01, hpe01⟩, (ho1.upd hd).upa hg⟩

