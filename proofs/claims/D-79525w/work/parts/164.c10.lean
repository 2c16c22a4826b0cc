set_option maxHeartbeats 4000000 in
theorem ct_X2_sink (G : fmG) (hl : (fmLn G).stackTraces = false) (h : fmHp) {h0 : fmHp} {d g sl se pl pe : Nat} {gf sf pf : Nat → Nat} {N : Nat → Int32} {K pk : Nat} (hC0 : CC G h0) (hM : MineAt G h d g sl se pl pe gf sf pf N K pk) (hD : Dr G h0 h d g sl se pl pe) (c : Nat) (hc : c < 64) (hR : RV N K pk) : Ct G yX2_sink (ws_ yX2_sink cX2_sink 4 (some .int)) { frames := 7, cells := 3, slots := 205, locals := 191 } [.ref d, .int (nI c)] h (dPost G h0 d g sl pl (aSink N (nI c) K pk)) (dXp h0 (aSink N (nI c) K pk)) := by
  refine Ct.of hl (by decide +kernel) (Nat.le_of_ble_eq_true rfl) (fun Γ E P => ?_)
  have hC : CC G h := hC0.kp hD.1
  obtain ⟨hd, ⟨gq, hg, hgq⟩, hgd, hS, hSh, hP, hPk, hK8, hP6, hsp, hse⟩ := id hM
  obtain ⟨mcS, hsl⟩ := hS.o
  obtain ⟨mcP, hpl⟩ := hP.o
  obtain ⟨hk0, hd0, hg0, hsl0, hpl0, hse0, hpe0⟩ := id hD
  obtain ⟨feS, capS, geS, hseA⟩ := hS.el
  obtain ⟨feP, capP, geP, hpeA⟩ := hP.el
  have hg1 : (!sBetween (nI c) (nI 0) (nI 63)) = false := by rw [sCell_n hc]; rfl
  have hcn : cN (nI c) = c := cN_n (by omega)
  refine r_aload_n E dX2_sink_0 rfl ?_
  refine r_getf E cl_X2 1 (by decide) q187 hd rfl dX2_sink_1 ?_
  refine r_callF1 (v1 := .int (nI K)) E (ctA_J2_size G hl (h) sl se K sf hS (by omega)) mJ2_size (ci := 12) rfl hsl 3 rfl q758 q581 q579 fx_3 rfl rfl (Nat.le_of_ble_eq_true rfl) (Nat.le_of_ble_eq_true rfl) (Nat.le_of_ble_eq_true rfl) dX2_sink_4 3 205 (Nat.le_of_ble_eq_true rfl) (Nat.le_of_ble_eq_true rfl) ?_
  refine r_bipush E (nI 8) dX2_sink_9 (by decide) ?_
  refine r_icmpN_ge (tgt := 18) E dX2_sink_11 (by decide) (by omega) (by omega) (fun c1 => ?_) (fun c1 => ?_)
  · have hr : aSink N (nI c) K pk = aRef (nI 8) (nI 8) := by unfold aSink; rw [aG_f hg1, aG_t (decide_eq_true (by omega))]
    refine r_iconst E (nI 0) dX2_sink_18 (by decide) ?_
    refine r_bipush E (nI 8) dX2_sink_19 (by decide) ?_
    refine r_bipush E (nI 8) dX2_sink_21 (by decide) ?_
    refine r_callSN E (ctF_X1_allow G hl h (nI 8) (nI 8)) mX1_allow q78 q734 q735 rfl rfl (Nat.le_of_ble_eq_true rfl) (Nat.le_of_ble_eq_true rfl) (Nat.le_of_ble_eq_true rfl) dX2_sink_23 0 0 (Nat.le_of_ble_eq_true rfl) (Nat.le_of_ble_eq_true rfl) (fun _ _ q => q.elim) (fun q Ex h' hx => ?_)
    exact r_xout E P (fun x hx => by cases hx) (dXp.ref hk0 (hr) hx)
  · have hK : K < 8 := by omega
    have hg2 : decide (K = 8) = false := decide_eq_false (by omega)
    refine r_iconst E (nI 1) dX2_sink_14 (by decide) ?_
    refine r_goto (tgt := 19) E dX2_sink_15 (by decide) ?_
    refine r_bipush E (nI 8) dX2_sink_19 (by decide) ?_
    refine r_bipush E (nI 8) dX2_sink_21 (by decide) ?_
    refine r_callSN0 E (ctT_X1_allow G hl (h) (nI 8) (nI 8)) mX1_allow q78 q734 q735 rfl rfl (Nat.le_of_ble_eq_true rfl) (Nat.le_of_ble_eq_true rfl) (Nat.le_of_ble_eq_true rfl) dX2_sink_23 3 205 (Nat.le_of_ble_eq_true rfl) (Nat.le_of_ble_eq_true rfl) ?_
    by_cases h0c : N c = nI 0
    · have hg3 : (!sChalk N (cN (nI c))) = false := by rw [hcn]; unfold sChalk; rw [decide_eq_true h0c]; rfl
      refine r_aload_n E dX2_sink_26 rfl ?_
      refine r_iload_n E dX2_sink_27 rfl ?_
      refine r_callV1 (v1 := .ref (gf c)) E (ctT_X2_chalk G hl (h) hC hM c hc h0c) mX2_chalk q688 q690 qs7 (fun H a1 => fm_rc (ci := 2) (C := RX2) (T := TX2) (N := 7) a1 rfl E.v hd) rfl rfl (Nat.le_of_ble_eq_true rfl) (Nat.le_of_ble_eq_true rfl) (Nat.le_of_ble_eq_true rfl) dX2_sink_28 3 205 (Nat.le_of_ble_eq_true rfl) (Nat.le_of_ble_eq_true rfl) ?_
      refine r_astore_n E [some (.ref d), some (.int (nI c)), some (.ref (gf c)), none] dX2_sink_31 rfl rfl ?_
      refine r_aload_n E dX2_sink_32 rfl ?_
      refine r_iload_n E dX2_sink_33 rfl ?_
      refine r_iconst E (-1) dX2_sink_34 (by decide) ?_
      cases hm : sMeet N c (-1) K with
      | none =>
        refine r_callV0 E (ctT_X2_allowMeeting G hl (h) hC hM c (-1) (by omega) hm) mX2_allowMeeting q787 q789 qs8 (fun H a1 => fm_rc (ci := 2) (C := RX2) (T := TX2) (N := 7) a1 rfl E.v hd) rfl rfl (Nat.le_of_ble_eq_true rfl) (Nat.le_of_ble_eq_true rfl) (Nat.le_of_ble_eq_true rfl) dX2_sink_35 3 205 (Nat.le_of_ble_eq_true rfl) (Nat.le_of_ble_eq_true rfl) ?_
        refine r_aload_n E dX2_sink_38 rfl ?_
        refine r_iload_n E dX2_sink_39 rfl ?_
        refine r_new E cl_X6 [.int 0, .int 0] q803 q804 q108 (by decide) 2 203 (Nat.le_of_ble_eq_true rfl) (Nat.le_of_ble_eq_true rfl) dX2_sink_40 (fun a2 ha2 ka2 => ?_)
        refine r_dup E dX2_sink_43 rfl ?_
        refine r_aload_n E dX2_sink_44 rfl ?_
        refine r_getf E cl_X2 1 (by decide) q187 (fmUp_of hd ha2) rfl dX2_sink_45 ?_
        refine r_callF1 (v1 := .int (nI K)) E (ctA_J2_size G hl (fmUp h a2 (true, .inr (.inl (4, [.int 0, .int 0])))) sl se K sf (AL.kp hS (Kp.up ha2)) (by omega)) mJ2_size (ci := 12) rfl (fmUp_of hsl ha2) 3 rfl q758 q581 q579 fx_3 rfl rfl (Nat.le_of_ble_eq_true rfl) (Nat.le_of_ble_eq_true rfl) (Nat.le_of_ble_eq_true rfl) dX2_sink_48 2 203 (Nat.le_of_ble_eq_true rfl) (Nat.le_of_ble_eq_true rfl) ?_
        refine r_iconst E (nI 0) dX2_sink_53 (by decide) ?_
        refine r_callI0 E (ct_X6_init G hl (fmUp h a2 (true, .inr (.inl (4, [.int 0, .int 0])))) a2 (nI K) false fmUp_s) mX6_init rfl q805 q806 rfl rfl (Nat.le_of_ble_eq_true rfl) (Nat.le_of_ble_eq_true rfl) (Nat.le_of_ble_eq_true rfl) dX2_sink_54 2 203 (Nat.le_of_ble_eq_true rfl) (Nat.le_of_ble_eq_true rfl) ?_
        refine r_hp (h' := fmUp h a2 (true, .inr (.inl (4, [.int (nI K), .int (bI false)])))) (fmUp_uu _ _ _ _) ?_
        have hMa := hM.kp (Kp.up (e := (true, .inr (.inl (4, [.int (nI K), .int (bI false)])))) ha2)
        have hDa := hD.kp (Kp.up (e := (true, .inr (.inl (4, [.int (nI K), .int (bI false)])))) ha2)
        cases hx : sPickK N (sStrokes N c) pk with
        | none =>
          have hr : aSink N (nI c) K pk = aRef (nI 5) (sStrokes N c) := by unfold aSink; rw [aG_f hg1, aG_f hg2, aG_f hg3, hcn, hm, aG_f (by rfl), hx]; rfl
          refine r_callV E (ctF_X2_open G hl _ hC0 hMa hDa c a2 (nI K) false hc h0c fmUp_s hx) mX2_open q820 q822 qs9 (fun H a1 => fm_rc (ci := 2) (C := RX2) (T := TX2) (N := 7) a1 rfl E.v (fmUp_of hd ha2)) rfl rfl (Nat.le_of_ble_eq_true rfl) (Nat.le_of_ble_eq_true rfl) (Nat.le_of_ble_eq_true rfl) dX2_sink_57 0 0 (Nat.le_of_ble_eq_true rfl) (Nat.le_of_ble_eq_true rfl) (fun _ _ q => q.elim) (fun q Ex h' hx => ?_)
          exact r_xout E P (fun x hx => by cases hx) (dXp.ref hDa.1 hr hx)
        | some x =>
          have hr : aSink N (nI c) K pk = aDon (nI K) (sOpenUp (sSink4 N c K) c K pk) := by unfold aSink; rw [aG_f hg1, aG_f hg2, aG_f hg3, hcn, hm, aG_f (by rfl), hx, aG_f (by rfl)]
          have h256 : N (256 + c) = nI 0 := by rcases hgd c hc with ⟨_, _, q3, _⟩ | ⟨p, q1, _, _⟩ | ⟨q1, _, _⟩ <;> first | exact q3 | (rw [h0c] at q1; exact absurd q1 (by decide))
          refine r_callV E (ctT_X2_open G hl _ hC0 hMa hDa c a2 (nI K) false hc h0c fmUp_s hR x hx) mX2_open q820 q822 qs9 (fun H a1 => fm_rc (ci := 2) (C := RX2) (T := TX2) (N := 7) a1 rfl E.v (fmUp_of hd ha2)) rfl rfl (Nat.le_of_ble_eq_true rfl) (Nat.le_of_ble_eq_true rfl) (Nat.le_of_ble_eq_true rfl) dX2_sink_57 2 203 (Nat.le_of_ble_eq_true rfl) (Nat.le_of_ble_eq_true rfl) (fun v' h1 q => ?_) (fun _ _ _ q => q.elim)
          obtain ⟨rfl, pe1, gf1, pf1, hM1, hD1, ho1⟩ := q
          have hC1 : CC G h1 := hC0.kp hD1.1
          obtain ⟨hd1, ⟨gq1, hg1, hgq1⟩, hgd1, hS1, hSh1, hP1, hPk1, hK81, hP61, hsp1, hse1⟩ := id hM1
          obtain ⟨mcS1, hsl1⟩ := hS1.o
          obtain ⟨mcP1, hpl1⟩ := hP1.o
          obtain ⟨feS1, capS1, geS1, hseA1⟩ := hS1.el
          obtain ⟨feP1, capP1, geP1, hpeA1⟩ := hP1.el
          obtain ⟨hk01, hd01, hg01, hsl01, hpl01, hse01, hpe01⟩ := id hD1
          refine r_istore_n E [some (.ref d), some (.int (nI c)), some (.ref (gf c)), some (.int (N (128 + c)))] dX2_sink_60 rfl rfl ?_
          refine r_aload_n E dX2_sink_61 rfl ?_
          refine r_getf E cl_X2 1 (by decide) q187 hd1 rfl dX2_sink_62 ?_
          refine r_new E cl_X7 [.int 0, .int 0, .int 0] q491 q878 q111 (by decide) 1 200 (Nat.le_of_ble_eq_true rfl) (Nat.le_of_ble_eq_true rfl) dX2_sink_65 (fun a3 ha3 ka3 => ?_)
          refine r_dup E dX2_sink_68 rfl ?_
          refine r_iload_n E dX2_sink_69 rfl ?_
          refine r_iload_n E dX2_sink_70 rfl ?_
          refine r_callI0 E (ct_X7_init G hl (fmUp h1 a3 (true, .inr (.inl (6, [.int 0, .int 0, .int 0])))) a3 (nI c) (N (128 + c)) fmUp_s) mX7_init rfl q879 q880 rfl rfl (Nat.le_of_ble_eq_true rfl) (Nat.le_of_ble_eq_true rfl) (Nat.le_of_ble_eq_true rfl) dX2_sink_71 1 200 (Nat.le_of_ble_eq_true rfl) (Nat.le_of_ble_eq_true rfl) ?_
          refine r_hp (h' := fmUp h1 a3 (true, .inr (.inl (6, [.int (nI c), .int (N (128 + c)), .int (bI false)])))) (fmUp_uu _ _ _ _) ?_
          have hMb := hM1.kp (Kp.up (e := (true, .inr (.inl (6, [.int (nI c), .int (N (128 + c)), .int (bI false)])))) ha3)
          have hDb := hD1.kp (Kp.up (e := (true, .inr (.inl (6, [.int (nI c), .int (N (128 + c)), .int (bI false)])))) ha3)
          have hCb := hC0.kp hDb.1
          obtain ⟨hd2, ⟨gq2, hg2, hgq2⟩, hgd2, hS2, hSh2, hP2, hPk2, hK82, hP62, hsp2, hse2⟩ := id hMb
          obtain ⟨mcS2, hsl2⟩ := hS2.o
          obtain ⟨mcP2, hpl2⟩ := hP2.o
          obtain ⟨feS2, capS2, geS2, hseA2⟩ := hS2.el
          obtain ⟨feP2, capP2, geP2, hpeA2⟩ := hP2.el
          obtain ⟨hk02, hd02, hg02, hsl02, hpl02, hse02, hpe02⟩ := id hDb
          refine r_callF E (ct_J2_add G hl _ sl se K sf hS2 (by omega) (by omega) (fun i hi => (hSh2 i hi).isO) a3 ⟨6, RX7, TX7, 3, true, _, rfl, fmUp_s, q2326⟩) mJ2_add (ci := 12) rfl hsl2 1 rfl q493 q498 q496 fx_1 rfl rfl (Nat.le_of_ble_eq_true rfl) (Nat.le_of_ble_eq_true rfl) (Nat.le_of_ble_eq_true rfl) dX2_sink_74 0 0 (Nat.le_of_ble_eq_true rfl) (Nat.le_of_ble_eq_true rfl) (fun v' h2 q => ?_) (fun _ _ _ q => q.elim)
          obtain ⟨rfl, se3, hA, hse3, hfr⟩ := q
          have hb3 := hfr _ _ fmUp_s (fun z => by rw [z, hsl1] at ha3; cases ha3) (Or.inl fun z => by rw [z, hseA1] at ha3; cases ha3)
          have hkk : ∀ {q : Nat} {b : Bool} {ci : Nat} {fs : List Value}, ci ≠ 12 → (fmUp h1 a3 (true, .inr (.inl (6, [.int (nI c), .int (N (128 + c)), .int (bI false)])))) q = some (b, .inr (.inl (ci, fs))) → h2 q = some (b, .inr (.inl (ci, fs))) := fun {q b ci fs} hci hq => hfr _ _ hq (fun z => by rw [z, hsl2] at hq; cases hq; exact hci rfl) (Or.inl fun z => by rw [z, hseA2] at hq; cases hq)
          obtain ⟨k1, k2, k3⟩ := sink_shK hc hK hP6 hx
          have hM3 := hMb.setS (N' := sOpenUp (sSink4 N c K) c K pk) hCb hA hfr (fun z => by
            rcases hse3 with ⟨e1, _⟩ | ⟨e1, _⟩
            · rw [e1] at z ⊢; exact hse2 z
            · rw [z, hpeA2] at e1; cases e1) (by omega) (fun k hk => by
              by_cases hkK : k = K
              · subst hkK; rw [updN_s]; exact ⟨false, k2, by rw [k1, k3]; exact hb3⟩
              · rw [updN_n hkK]; obtain ⟨g1, g2, g3⟩ := sink_sh (k := k) hc hK hP6 hx (by omega); obtain ⟨cl, f1, f2⟩ := hSh2 k (by omega)
                rw [oRow_o (by omega) (by omega) (by omega) (by omega), oW_lo hP6 hx (by omega) (by omega)] at f1
                rw [oRow_o (by omega) (by omega) (by omega) (by omega), oW_lo hP6 hx (by omega) (by omega), oRow_o (by omega) (by omega) (by omega) (by omega), oW_lo hP6 hx (by omega) (by omega)] at f2
                exact ⟨cl, by rw [g2]; exact f1, by rw [g1, g3]; exact hkk (by decide) f2⟩) (fun q hq => sink_row hc hK hP6 hx h256 hq)
          obtain ⟨j1, j2⟩ := sink_350 hc hK hP6 hx hR.2.2.1
          have hk3 := Dr.list hC0 hk02 hsl02 hse02 hfr
          obtain ⟨hd3, -⟩ := id hM3
          obtain ⟨mc3, hsl3⟩ := hA.o
          refine r_pop E dX2_sink_79 rfl ?_
          refine r_aload_n E dX2_sink_80 rfl ?_
          refine r_getf E cl_X2 1 (by decide) q187 hd3 rfl dX2_sink_81 ?_
          refine r_callF1 (v1 := .int (nI (K + 1))) E (ctA_J2_size G hl (h2) sl se3 (K + 1) (updN sf K a3) hA (by omega)) mJ2_size (ci := 12) rfl hsl3 3 rfl q758 q581 q579 fx_3 rfl rfl (Nat.le_of_ble_eq_true rfl) (Nat.le_of_ble_eq_true rfl) (Nat.le_of_ble_eq_true rfl) dX2_sink_84 0 0 (Nat.le_of_ble_eq_true rfl) (Nat.le_of_ble_eq_true rfl) ?_
          refine r_iconst E (nI 1) dX2_sink_89 (by decide) ?_
          refine r_isubN E dX2_sink_90 (by omega) ?_
          refine r_top (v' := .int (nI K)) (by rw [Nat.add_sub_cancel]) ?_
          exact r_ireturn E P rfl dX2_sink_91 (by rw [hr]; exact ⟨rfl, rfl, se3, pe1, gf1, _, pf1, K + 1, oPk N c pk, hM3, ⟨hk3, hd0, hg0, hsl0, hpl0, hse3.elim (fun q => by rw [q.1]; exact hse02) (fun q => Or.inl (hDb.1.none q.1)), hpe02⟩, j1, j2⟩)
      | some x =>
        have hr : aSink N (nI c) K pk = aRef (nI 3) (nI x) := by unfold aSink; rw [aG_f hg1, aG_f hg2, aG_f hg3, hcn, hm]; rfl
        refine r_callV E (ctF_X2_allowMeeting G hl h hC hM c (-1) hc x hm) mX2_allowMeeting q787 q789 qs8 (fun H a1 => fm_rc (ci := 2) (C := RX2) (T := TX2) (N := 7) a1 rfl E.v hd) rfl rfl (Nat.le_of_ble_eq_true rfl) (Nat.le_of_ble_eq_true rfl) (Nat.le_of_ble_eq_true rfl) dX2_sink_35 0 0 (Nat.le_of_ble_eq_true rfl) (Nat.le_of_ble_eq_true rfl) (fun _ _ q => q.elim) (fun q Ex h' hx => ?_)
        exact r_xout E P (fun x hx => by cases hx) (dXp.ref hk0 (hr) hx)
    · have hr : aSink N (nI c) K pk = aRef (nI 1) (nI c) := by unfold aSink; rw [aG_f hg1, aG_f hg2, aG_t (by rw [hcn]; unfold sChalk; rw [decide_eq_false h0c]; rfl)]
      refine r_aload_n E dX2_sink_26 rfl ?_
      refine r_iload_n E dX2_sink_27 rfl ?_
      refine r_callV E (ctF_X2_chalk G hl h hC hM c hc h0c) mX2_chalk q688 q690 qs7 (fun H a1 => fm_rc (ci := 2) (C := RX2) (T := TX2) (N := 7) a1 rfl E.v hd) rfl rfl (Nat.le_of_ble_eq_true rfl) (Nat.le_of_ble_eq_true rfl) (Nat.le_of_ble_eq_true rfl) dX2_sink_28 0 0 (Nat.le_of_ble_eq_true rfl) (Nat.le_of_ble_eq_true rfl) (fun _ _ q => q.elim) (fun q Ex h' hx => ?_)
      exact r_xout E P (fun x hx => by cases hx) (dXp.ref hk0 (hr) hx)

