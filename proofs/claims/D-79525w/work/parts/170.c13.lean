set_option maxHeartbeats 4000000 in
theorem ct_X2_dig (G : fmG) (hl : (fmLn G).stackTraces = false) (h : fmHp) {h0 : fmHp} {d g sl se pl pe : Nat} {gf sf pf : Nat → Nat} {N : Nat → Int32} {K pk : Nat} (hC0 : CC G h0) (hM : MineAt G h d g sl se pl pe gf sf pf N K pk) (hD : Dr G h0 h d g sl se pl pe) (s v : Int32) (p : Bool) (hR : RV N K pk) : Ct G yX2_dig (ws_ yX2_dig cX2_dig 9 (some .int)) { frames := 8, cells := 5, slots := 216, locals := 157 } [.ref d, .int s, .int v, .int (bI p)] h (dPost G h0 d g sl pl (aDig N s v p K pk)) (dXp h0 (aDig N s v p K pk)) := by
  refine Ct.of hl (by decide +kernel) (Nat.le_of_ble_eq_true rfl) (fun Γ E P => ?_)
  have hC : CC G h := hC0.kp hD.1
  obtain ⟨hd, ⟨gq, hg, hgq⟩, hgd, hS, hSh, hP, hPk, hK8, hP6, hsp, hse⟩ := id hM
  obtain ⟨mcS, hsl⟩ := hS.o
  obtain ⟨mcP, hpl⟩ := hP.o
  obtain ⟨hk0, hd0, hg0, hsl0, hpl0, hse0, hpe0⟩ := id hD
  obtain ⟨feS, capS, geS, hseA⟩ := hS.el
  obtain ⟨feP, capP, geP, hpeA⟩ := hP.el
  cases hs : sBetween s (nI 0) (nI K - nI 1) with
  | false =>
    have hr : aDig N s v p K pk = aThr 1 := by unfold aDig; rw [hs]; rfl
    refine r_aload_n E dX2_dig_0 rfl ?_
    refine r_iload_n E dX2_dig_1 rfl ?_
    refine r_callV E (ctF_X2_shaft G hl h hC hM s hs) mX2_shaft q908 q909 q910 (fun H a1 => fm_rc (ci := 2) (C := RX2) (T := TX2) (N := 7) a1 rfl E.v hd) rfl rfl (Nat.le_of_ble_eq_true rfl) (Nat.le_of_ble_eq_true rfl) (Nat.le_of_ble_eq_true rfl) dX2_dig_2 0 0 (Nat.le_of_ble_eq_true rfl) (Nat.le_of_ble_eq_true rfl) (fun _ _ q => q.elim) (fun q Ex h' hx => ?_)
    exact r_xout E P (fun x hx => by cases hx) (dXp.oob hk0 hr hx)
  | true =>
    obtain ⟨j, hj, rfl⟩ := sShaft_of (by omega) hs
    obtain ⟨cl, hcl, hso⟩ := hSh j hj
    refine r_aload_n E dX2_dig_0 rfl ?_
    refine r_iload_n E dX2_dig_1 rfl ?_
    refine r_callV1 (v1 := .ref (sf j)) E (ctT_X2_shaft G hl (h) hC hM j (by omega)) mX2_shaft q908 q909 q910 (fun H a1 => fm_rc (ci := 2) (C := RX2) (T := TX2) (N := 7) a1 rfl E.v hd) rfl rfl (Nat.le_of_ble_eq_true rfl) (Nat.le_of_ble_eq_true rfl) (Nat.le_of_ble_eq_true rfl) dX2_dig_2 5 216 (Nat.le_of_ble_eq_true rfl) (Nat.le_of_ble_eq_true rfl) ?_
    refine r_astore E [some (.ref d), some (.int (nI j)), some (.int v), some (.int (bI p)), some (.ref (sf j)), none, none, none, none] dX2_dig_5 rfl rfl ?_
    refine r_iconst E (nI 1) dX2_dig_7 (by decide) ?_
    refine r_newa E 0 (.inl (fun _ => 0)) rfl (z_ai 1) q236 (fun e => e) (Nat.le_of_ble_eq_true rfl) (Nat.le_of_ble_eq_true rfl) 4 215 (Nat.le_of_ble_eq_true rfl) (Nat.le_of_ble_eq_true rfl) dX2_dig_8 (fun b1 hb1 kb1 => ?_)
    refine r_dup E dX2_dig_10 rfl ?_
    refine r_iconst E (nI 0) dX2_dig_11 (by decide) ?_
    refine r_iload_n E dX2_dig_12 rfl ?_
    refine r_iast E fmUp_s (by decide) (by decide) dX2_dig_13 ?_
    refine r_hp (h' := fmUp h b1 (true, .inl (0, 1, .inl (upd (fun _ => 0) 0 v)))) (fmUp_uu _ _ _ _) ?_
    have hMb := hM.kp (Kp.up (e := (true, .inl (0, 1, .inl (upd (fun _ => 0) 0 v)))) hb1)
    have hDb := hD.kp (Kp.up (e := (true, .inl (0, 1, .inl (upd (fun _ => 0) 0 v)))) hb1)
    have hCb := hC0.kp hDb.1
    cases hv : sBetween v (nI 0) (nI 63) with
    | false =>
      have hr : aDig N (nI j) v p K pk = aThr 1 := by unfold aDig; rw [hs, hv]; rfl
      refine r_callSN E (ctF_X1_cellOf G hl _ b1 true _ fmUp_s (by rw [upd_eq' rfl]; exact hv)) mX1_cellOf q78 q914 q626 rfl rfl (Nat.le_of_ble_eq_true rfl) (Nat.le_of_ble_eq_true rfl) (Nat.le_of_ble_eq_true rfl) dX2_dig_14 0 0 (Nat.le_of_ble_eq_true rfl) (Nat.le_of_ble_eq_true rfl) (fun _ _ q => q.elim) (fun q Ex h' hx => ?_)
      exact r_xout E P (fun x hx => by cases hx) (dXp.oob hDb.1 hr hx)
    | true =>
      obtain ⟨c, hc0, rfl⟩ := sBtw_of (by decide) hv
      have hc : c < 64 := by omega
      have hcn : cN (nI c) = c := cN_n (by omega)
      have hjn : cN (nI j) = j := cN_n (by omega)
      have hg1 : (!(sBetween (nI j) (nI 0) (nI K - nI 1) && sBetween (nI c) (nI 0) (nI 63))) = false := by rw [hs, hv]; rfl
      refine r_callSN1 (v1 := .int (nI c)) E (ctT_X1_cellOf G hl (fmUp h b1 (true, .inl (0, 1, .inl (upd (fun _ => 0) 0 (nI c))))) b1 true (upd (fun _ => 0) 0 (nI c)) fmUp_s c hc (upd_eq' rfl)) mX1_cellOf q78 q914 q626 rfl rfl (Nat.le_of_ble_eq_true rfl) (Nat.le_of_ble_eq_true rfl) (Nat.le_of_ble_eq_true rfl) dX2_dig_14 4 215 (Nat.le_of_ble_eq_true rfl) (Nat.le_of_ble_eq_true rfl) ?_
      obtain ⟨hd2, ⟨gq2, hg2, hgq2⟩, hgd2, hS2, hSh2, hP2, hPk2, hK82, hP62, hsp2, hse2⟩ := id hMb
      obtain ⟨mcS2, hsl2⟩ := hS2.o
      obtain ⟨mcP2, hpl2⟩ := hP2.o
      obtain ⟨feS2, capS2, geS2, hseA2⟩ := hS2.el
      obtain ⟨feP2, capP2, geP2, hpeA2⟩ := hP2.el
      obtain ⟨hk02, hd02, hg02, hsl02, hpl02, hse02, hpe02⟩ := id hDb
      have hso2 := fmUp_of (e := (true, .inl (0, 1, .inl (upd (fun _ => 0) 0 (nI c))))) hso hb1
      obtain ⟨pr, hp9, hpr⟩ := hR.2.2.2.2.2.2.1
      refine r_istore E [some (.ref d), some (.int (nI j)), some (.int (nI c)), some (.int (bI p)), some (.ref (sf j)), some (.int (nI c)), none, none, none] dX2_dig_17 rfl rfl ?_
      refine r_aload E dX2_dig_19 rfl ?_
      refine r_getfN E cl_X7 2 (by decide) q893 hso2 rfl dX2_dig_21 ?_
      refine r_ifB_ne (b := cl) (tgt := 31) E dX2_dig_24 (by decide) (fun c2 => ?_) (fun c2 => ?_)
      · have q1 : decide (N (328 + j) = nI 1) = true := decide_eq_true (by rw [hcl, c2]; rfl)
        refine r_iconst E (nI 0) dX2_dig_31 (by decide) ?_
        refine r_bipush E (nI 6) dX2_dig_32 (by decide) ?_
        refine r_iload_n E dX2_dig_34 rfl ?_
        have hr : aDig N (nI j) (nI c) p K pk = aRef (nI 6) (nI j) := by unfold aDig; rw [aG_f hg1, hcn, hjn, aGO_s (show sDigRef N j c p K pk = some (nI 6, nI j) by unfold sDigRef; rw [sChk_t (q1)])]
        refine r_callSN E (ctF_X1_allow G hl _ (nI 6) (nI j)) mX1_allow q78 q734 q735 rfl rfl (Nat.le_of_ble_eq_true rfl) (Nat.le_of_ble_eq_true rfl) (Nat.le_of_ble_eq_true rfl) dX2_dig_35 0 0 (Nat.le_of_ble_eq_true rfl) (Nat.le_of_ble_eq_true rfl) (fun _ _ q => q.elim) (fun q Ex h' hx => ?_)
        exact r_xout E P (fun x hx => by cases hx) (dXp.ref hDb.1 hr hx)
      · have q1 : decide (N (328 + j) = nI 1) = false := decide_eq_false (by rw [hcl, c2]; decide)
        subst c2
        refine r_iconst E (nI 1) dX2_dig_27 (by decide) ?_
        refine r_goto (tgt := 32) E dX2_dig_28 (by decide) ?_
        refine r_bipush E (nI 6) dX2_dig_32 (by decide) ?_
        refine r_iload_n E dX2_dig_34 rfl ?_
        refine r_callSN0 E (ctT_X1_allow G hl (fmUp h b1 (true, .inl (0, 1, .inl (upd (fun _ => 0) 0 (nI c))))) (nI 6) (nI j)) mX1_allow q78 q734 q735 rfl rfl (Nat.le_of_ble_eq_true rfl) (Nat.le_of_ble_eq_true rfl) (Nat.le_of_ble_eq_true rfl) dX2_dig_35 4 215 (Nat.le_of_ble_eq_true rfl) (Nat.le_of_ble_eq_true rfl) ?_
        refine r_aload_n E dX2_dig_38 rfl ?_
        refine r_iload E dX2_dig_39 rfl ?_
        by_cases h0c : N c = nI 0
        · have q2 : (!sChalk N c) = false := by unfold sChalk; rw [decide_eq_true h0c]; rfl
          refine r_callV1 (v1 := .ref (gf c)) E (ctT_X2_chalk G hl (fmUp h b1 (true, .inl (0, 1, .inl (upd (fun _ => 0) 0 (nI c))))) hCb hMb c hc h0c) mX2_chalk q688 q690 qs7 (fun H a1 => fm_rc (ci := 2) (C := RX2) (T := TX2) (N := 7) a1 rfl E.v hd2) rfl rfl (Nat.le_of_ble_eq_true rfl) (Nat.le_of_ble_eq_true rfl) (Nat.le_of_ble_eq_true rfl) dX2_dig_41 4 215 (Nat.le_of_ble_eq_true rfl) (Nat.le_of_ble_eq_true rfl) ?_
          refine r_astore E [some (.ref d), some (.int (nI j)), some (.int (nI c)), some (.int (bI p)), some (.ref (sf j)), some (.int (nI c)), some (.ref (gf c)), none, none] dX2_dig_44 rfl rfl ?_
          refine r_aload_n E dX2_dig_46 rfl ?_
          refine r_iload E dX2_dig_47 rfl ?_
          refine r_iload_n E dX2_dig_49 rfl ?_
          refine r_callV1 (v1 := .int (bI (sNext N c (nI j)))) E (ct_X2_isNextTo G hl (fmUp h b1 (true, .inl (0, 1, .inl (upd (fun _ => 0) 0 (nI c))))) hCb hMb c (nI j) (by omega)) mX2_isNextTo q795 q796 q797 (fun H a1 => fm_rc (ci := 2) (C := RX2) (T := TX2) (N := 7) a1 rfl E.v hd2) rfl rfl (Nat.le_of_ble_eq_true rfl) (Nat.le_of_ble_eq_true rfl) (Nat.le_of_ble_eq_true rfl) dX2_dig_50 4 215 (Nat.le_of_ble_eq_true rfl) (Nat.le_of_ble_eq_true rfl) ?_
          cases hn : sNext N c (nI j) with
          | false =>
            have q3 : (!sNext N c (nI j)) = true := by rw [hn]; rfl
            refine r_top (v' := .int (bI false)) (by first | rfl | rw [hn]) ?_
            refine r_iconst E (nI 2) dX2_dig_53 (by decide) ?_
            refine r_iload E dX2_dig_54 rfl ?_
            have hr : aDig N (nI j) (nI c) p K pk = aRef (nI 2) (nI c) := by unfold aDig; rw [aG_f hg1, hcn, hjn, aGO_s (show sDigRef N j c p K pk = some (nI 2, nI c) by unfold sDigRef; rw [sChk_f (q1), sChk_f (q2), sChk_t (q3)])]
            refine r_callSN E (ctF_X1_allow G hl _ (nI 2) (nI c)) mX1_allow q78 q734 q735 rfl rfl (Nat.le_of_ble_eq_true rfl) (Nat.le_of_ble_eq_true rfl) (Nat.le_of_ble_eq_true rfl) dX2_dig_56 0 0 (Nat.le_of_ble_eq_true rfl) (Nat.le_of_ble_eq_true rfl) (fun _ _ q => q.elim) (fun q Ex h' hx => ?_)
            exact r_xout E P (fun x hx => by cases hx) (dXp.ref hDb.1 hr hx)
          | true =>
            have q3 : (!sNext N c (nI j)) = false := by rw [hn]; rfl
            refine r_top (v' := .int (bI true)) (by first | rfl | rw [hn]) ?_
            refine r_iconst E (nI 2) dX2_dig_53 (by decide) ?_
            refine r_iload E dX2_dig_54 rfl ?_
            refine r_callSN0 E (ctT_X1_allow G hl (fmUp h b1 (true, .inl (0, 1, .inl (upd (fun _ => 0) 0 (nI c))))) (nI 2) (nI c)) mX1_allow q78 q734 q735 rfl rfl (Nat.le_of_ble_eq_true rfl) (Nat.le_of_ble_eq_true rfl) (Nat.le_of_ble_eq_true rfl) dX2_dig_56 4 215 (Nat.le_of_ble_eq_true rfl) (Nat.le_of_ble_eq_true rfl) ?_
            refine r_aload_n E dX2_dig_59 rfl ?_
            refine r_iload E dX2_dig_60 rfl ?_
            refine r_iload_n E dX2_dig_62 rfl ?_
            cases hm : sMeet N c (nI j) K with
            | none =>
              have q4 : (sMeet N c (nI j) K).isSome = false := by rw [hm]; rfl
              refine r_callV0 E (ctT_X2_allowMeeting G hl (fmUp h b1 (true, .inl (0, 1, .inl (upd (fun _ => 0) 0 (nI c))))) hCb hMb c (nI j) (by omega) hm) mX2_allowMeeting q787 q789 qs8 (fun H a1 => fm_rc (ci := 2) (C := RX2) (T := TX2) (N := 7) a1 rfl E.v hd2) rfl rfl (Nat.le_of_ble_eq_true rfl) (Nat.le_of_ble_eq_true rfl) (Nat.le_of_ble_eq_true rfl) dX2_dig_63 4 215 (Nat.le_of_ble_eq_true rfl) (Nat.le_of_ble_eq_true rfl) ?_
              have hw := sWide_le N c
              cases p with
              | false =>
                refine r_iload_n E dX2_dig_66 rfl ?_
                refine r_ifB_eq (b := false) (tgt := 77) E dX2_dig_67 (by decide) (fun _ => ?_) (fun c => absurd c (by decide))
                refine r_iconst E (nI 1) dX2_dig_77 (by decide) ?_
                refine r_goto (tgt := 82) E dX2_dig_78 (by decide) ?_
                refine r_bipush E (nI 7) dX2_dig_82 (by decide) ?_
                refine r_iconst E (nI 0) dX2_dig_84 (by decide) ?_
                refine r_callSN0 E (ctT_X1_allow G hl (fmUp h b1 (true, .inl (0, 1, .inl (upd (fun _ => 0) 0 (nI c))))) (nI 7) (nI 0)) mX1_allow q78 q734 q735 rfl rfl (Nat.le_of_ble_eq_true rfl) (Nat.le_of_ble_eq_true rfl) (Nat.le_of_ble_eq_true rfl) dX2_dig_85 4 215 (Nat.le_of_ble_eq_true rfl) (Nat.le_of_ble_eq_true rfl) ?_
                refine r_iload_n E dX2_dig_88 rfl ?_
                have q5 : (false && decide (N 352 = nI 0)) = false := rfl
                refine r_ifB_ne (b := false) (tgt := 105) E dX2_dig_89 (by decide) (fun c => absurd c (by decide)) (fun _ => ?_)
                refine r_aload_n E dX2_dig_92 rfl ?_
                refine r_iload E dX2_dig_93 rfl ?_
                refine r_callV1 (v1 := .int (nI (sWide N c))) E (ct_X2_widest G hl (fmUp h b1 (true, .inl (0, 1, .inl (upd (fun _ => 0) 0 (nI c))))) hCb hMb c (by omega)) mX2_widest q915 q916 q917 (fun H a1 => fm_rc (ci := 2) (C := RX2) (T := TX2) (N := 7) a1 rfl E.v hd2) rfl rfl (Nat.le_of_ble_eq_true rfl) (Nat.le_of_ble_eq_true rfl) (Nat.le_of_ble_eq_true rfl) dX2_dig_95 4 215 (Nat.le_of_ble_eq_true rfl) (Nat.le_of_ble_eq_true rfl) ?_
                refine r_aload_n E dX2_dig_98 rfl ?_
                refine r_getf E cl_X2 3 (by decide) q191 hd2 rfl dX2_dig_99 ?_
                refine r_icmp_gt (x := nI (sWide N c)) (y := N 355) (tgt := 109) E dX2_dig_102 (by decide) (fun c5 => ?_) (fun c5 => ?_)
                · have q6 : (!false && decide (N 355 < nI (sWide N c))) = true := by rw [decide_eq_true c5]; rfl
                  refine r_iconst E (nI 0) dX2_dig_109 (by decide) ?_
                  refine r_iconst E (nI 4) dX2_dig_110 (by decide) ?_
                  refine r_aload_n E dX2_dig_111 rfl ?_
                  refine r_iload E dX2_dig_112 rfl ?_
                  refine r_callV1 (v1 := .int (nI (sWide N c))) E (ct_X2_widest G hl (fmUp h b1 (true, .inl (0, 1, .inl (upd (fun _ => 0) 0 (nI c))))) hCb hMb c (by omega)) mX2_widest q915 q916 q917 (fun H a1 => fm_rc (ci := 2) (C := RX2) (T := TX2) (N := 7) a1 rfl E.v hd2) rfl rfl (Nat.le_of_ble_eq_true rfl) (Nat.le_of_ble_eq_true rfl) (Nat.le_of_ble_eq_true rfl) dX2_dig_114 4 215 (Nat.le_of_ble_eq_true rfl) (Nat.le_of_ble_eq_true rfl) ?_
                  have hr : aDig N (nI j) (nI c) false K pk = aRef (nI 4) (nI (sWide N c)) := by unfold aDig; rw [aG_f hg1, hcn, hjn, aGO_s (show sDigRef N j c false K pk = some (nI 4, nI (sWide N c)) by unfold sDigRef; rw [sChk_f (q1), sChk_f (q2), sChk_f (q3), sChk_f (q4), sChk_f (q5), sChk_t (q6)])]
                  refine r_callSN E (ctF_X1_allow G hl _ (nI 4) (nI (sWide N c))) mX1_allow q78 q734 q735 rfl rfl (Nat.le_of_ble_eq_true rfl) (Nat.le_of_ble_eq_true rfl) (Nat.le_of_ble_eq_true rfl) dX2_dig_117 0 0 (Nat.le_of_ble_eq_true rfl) (Nat.le_of_ble_eq_true rfl) (fun _ _ q => q.elim) (fun q Ex h' hx => ?_)
                  exact r_xout E P (fun x hx => by cases hx) (dXp.ref hDb.1 hr hx)
                · have q6 : (!false && decide (N 355 < nI (sWide N c))) = false := by rw [decide_eq_false c5]; rfl
                  refine r_iconst E (nI 1) dX2_dig_105 (by decide) ?_
                  refine r_goto (tgt := 110) E dX2_dig_106 (by decide) ?_
                  refine r_iconst E (nI 4) dX2_dig_110 (by decide) ?_
                  refine r_aload_n E dX2_dig_111 rfl ?_
                  refine r_iload E dX2_dig_112 rfl ?_
                  refine r_callV1 (v1 := .int (nI (sWide N c))) E (ct_X2_widest G hl (fmUp h b1 (true, .inl (0, 1, .inl (upd (fun _ => 0) 0 (nI c))))) hCb hMb c (by omega)) mX2_widest q915 q916 q917 (fun H a1 => fm_rc (ci := 2) (C := RX2) (T := TX2) (N := 7) a1 rfl E.v hd2) rfl rfl (Nat.le_of_ble_eq_true rfl) (Nat.le_of_ble_eq_true rfl) (Nat.le_of_ble_eq_true rfl) dX2_dig_114 4 215 (Nat.le_of_ble_eq_true rfl) (Nat.le_of_ble_eq_true rfl) ?_
                  refine r_callSN0 E (ctT_X1_allow G hl (fmUp h b1 (true, .inl (0, 1, .inl (upd (fun _ => 0) 0 (nI c))))) (nI 4) (nI (sWide N c))) mX1_allow q78 q734 q735 rfl rfl (Nat.le_of_ble_eq_true rfl) (Nat.le_of_ble_eq_true rfl) (Nat.le_of_ble_eq_true rfl) dX2_dig_117 4 215 (Nat.le_of_ble_eq_true rfl) (Nat.le_of_ble_eq_true rfl) ?_
                  refine r_aload_n E dX2_dig_120 rfl ?_
                  refine r_iload E dX2_dig_121 rfl ?_
                  refine r_new E cl_X6 [.int 0, .int 0] q803 q804 q108 (by decide) 3 213 (Nat.le_of_ble_eq_true rfl) (Nat.le_of_ble_eq_true rfl) dX2_dig_123 (fun a6 ha6 ka6 => ?_)
                  refine r_dup E dX2_dig_126 rfl ?_
                  refine r_iload_n E dX2_dig_127 rfl ?_
                  refine r_iload_n E dX2_dig_128 rfl ?_
                  refine r_callI0 E (ct_X6_init G hl (fmUp (fmUp h b1 (true, .inl (0, 1, .inl (upd (fun _ => 0) 0 (nI c))))) a6 (true, .inr (.inl (4, [.int 0, .int 0])))) a6 (nI j) false fmUp_s) mX6_init rfl q805 q806 rfl rfl (Nat.le_of_ble_eq_true rfl) (Nat.le_of_ble_eq_true rfl) (Nat.le_of_ble_eq_true rfl) dX2_dig_129 3 213 (Nat.le_of_ble_eq_true rfl) (Nat.le_of_ble_eq_true rfl) ?_
                  refine r_hp (h' := fmUp (fmUp h b1 (true, .inl (0, 1, .inl (upd (fun _ => 0) 0 (nI c))))) a6 (true, .inr (.inl (4, [.int (nI j), .int (bI false)])))) (fmUp_uu _ _ _ _) ?_
                  have hMa := hMb.kp (Kp.up (e := (true, .inr (.inl (4, [.int (nI j), .int (bI false)])))) ha6)
                  have hDa := hDb.kp (Kp.up (e := (true, .inr (.inl (4, [.int (nI j), .int (bI false)])))) ha6)
                  have hso3 := fmUp_of (e := (true, .inr (.inl (4, [.int (nI j), .int (bI false)])))) hso2 ha6
                  cases hx : sPickK N (sStrokes N c) pk with
                  | none =>
                    have q7 : (sPickK N (sStrokes N c) pk).isNone = true := by rw [hx]; rfl
                    have hr : aDig N (nI j) (nI c) false K pk = aRef (nI 5) (sStrokes N c) := by unfold aDig; rw [aG_f hg1, hcn, hjn, aGO_s (show sDigRef N j c false K pk = some (nI 5, sStrokes N c) by unfold sDigRef; rw [sChk_f q1, sChk_f q2, sChk_f q3, sChk_f q4, sChk_f q5, sChk_f q6, sChk_t q7])]
                    refine r_callV E (ctF_X2_open G hl _ hC0 hMa hDa c a6 (nI j) false hc h0c fmUp_s hx) mX2_open q820 q822 qs9 (fun H a1 => fm_rc (ci := 2) (C := RX2) (T := TX2) (N := 7) a1 rfl E.v (fmUp_of hd2 ha6)) rfl rfl (Nat.le_of_ble_eq_true rfl) (Nat.le_of_ble_eq_true rfl) (Nat.le_of_ble_eq_true rfl) dX2_dig_132 0 0 (Nat.le_of_ble_eq_true rfl) (Nat.le_of_ble_eq_true rfl) (fun _ _ q => q.elim) (fun q Ex h' hx => ?_)
                    exact r_xout E P (fun x hx => by cases hx) (dXp.ref hDa.1 hr hx)
                  | some x =>
                    have q7 : (sPickK N (sStrokes N c) pk).isNone = false := by rw [hx]; rfl
                    have hr : aDig N (nI j) (nI c) false K pk = aDon (sDigRow N j c pk false (128 + c)) (sDigRow N j c pk false) := by unfold aDig; rw [aG_f hg1, hcn, hjn, aGO_n (show sDigRef N j c false K pk = none by unfold sDigRef; rw [sChk_f q1, sChk_f q2, sChk_f q3, sChk_f q4, sChk_f q5, sChk_f q6, sChk_f q7]; rfl)]
                    refine r_callV E (ctT_X2_open G hl _ hC0 hMa hDa c a6 (nI j) false hc h0c fmUp_s hR x hx) mX2_open q820 q822 qs9 (fun H a1 => fm_rc (ci := 2) (C := RX2) (T := TX2) (N := 7) a1 rfl E.v (fmUp_of hd2 ha6)) rfl rfl (Nat.le_of_ble_eq_true rfl) (Nat.le_of_ble_eq_true rfl) (Nat.le_of_ble_eq_true rfl) dX2_dig_132 3 213 (Nat.le_of_ble_eq_true rfl) (Nat.le_of_ble_eq_true rfl) (fun v' h1 q => ?_) (fun _ _ _ q => q.elim)
                    obtain ⟨rfl, pe1, gf1, pf1, hM1, hD1, ho1⟩ := q
                    have hC1 : CC G h1 := hC0.kp hD1.1
                    have hso4 := ho1 _ _ _ _ hso3 (by decide) (by decide)
                    obtain ⟨hd3, ⟨gq3, hg3, hgq3⟩, hgd3, hS3, hSh3, hP3, hPk3, hK83, hP63, hsp3, hse3⟩ := id hM1
                    obtain ⟨mcS3, hsl3⟩ := hS3.o
                    obtain ⟨mcP3, hpl3⟩ := hP3.o
                    obtain ⟨feS3, capS3, geS3, hseA3⟩ := hS3.el
                    obtain ⟨feP3, capP3, geP3, hpeA3⟩ := hP3.el
                    obtain ⟨hk03, hd03, hg03, hsl03, hpl03, hse03, hpe03⟩ := id hD1
                    have e352 : (oRow N c (nI j) false pk) 352 = N 352 := by rw [oRow_o (by omega) (by omega) (by omega) (by omega), oW_lo hP6 hx (by omega) (by omega)]
                    refine r_istore E [some (.ref d), some (.int (nI j)), some (.int (nI c)), some (.int (bI false)), some (.ref (sf j)), some (.int (nI c)), some (.ref (gf c)), some (.int (N (128 + c))), none] dX2_dig_135 rfl rfl ?_
                    refine r_aload_n E dX2_dig_137 rfl ?_
                    refine r_dup E dX2_dig_138 rfl ?_
                    refine r_getf E cl_X2 4 (by decide) q193 hd3 rfl dX2_dig_139 ?_
                    refine r_iload_n E dX2_dig_142 rfl ?_
                    refine r_ifB_eq (b := false) (tgt := 150) E dX2_dig_143 (by decide) (fun _ => ?_) (fun c => absurd c (by decide))
                    refine r_iconst E (nI 0) dX2_dig_150 (by decide) ?_
                    refine r_isub E dX2_dig_151 ?_
                    refine r_putf E cl_X2 4 (by decide) rfl q193 (fun _ z => z) hd3 (Nat.le_of_ble_eq_true rfl) rfl rfl dX2_dig_152 ?_
                    refine r_hp (h' := fmUp h1 d (true, .inr (.inl (2, [.ref g, .ref sl, .ref pl, .int ((oRow N c (nI j) false pk) 355), .int (((oRow N c (nI j) false pk) 352) - (nI 0)), .int ((oRow N c (nI j) false pk) 353), .int ((oRow N c (nI j) false pk) 354)])))) (rfl) ?_
                    have hM4 := hM1.setd (N' := upd (oRow N c (nI j) false pk) 352 ((oRow N c (nI j) false pk) 352 - bI false)) (fun q hq => upd_ne' (by omega))
                    have hD4 : Dr G h0 (fmUp h1 d (true, .inr (.inl (2, [.ref g, .ref sl, .ref pl, .int ((oRow N c (nI j) false pk) 355), .int (((oRow N c (nI j) false pk) 352) - (nI 0)), .int ((oRow N c (nI j) false pk) 353), .int ((oRow N c (nI j) false pk) 354)])))) d g sl se pl pe1 := ⟨hk03.up0 hd03, hd03, hg03, hsl03, hpl03, hse03, hpe03⟩
                    have hM5 : MineAt G (fmUp h1 d (true, .inr (.inl (2, [.ref g, .ref sl, .ref pl, .int ((oRow N c (nI j) false pk) 355), .int (((oRow N c (nI j) false pk) 352) - (nI 0)), .int ((oRow N c (nI j) false pk) 353), .int ((oRow N c (nI j) false pk) 354)])))) d g sl se pl pe1 gf1 sf pf1 (upd (oRow N c (nI j) false pk) 352 ((oRow N c (nI j) false pk) 352 - bI false)) K (oPk N c pk) := hM4
                    have hso5 := (fmUp_n (e := (true, .inr (.inl (2, [.ref g, .ref sl, .ref pl, .int ((oRow N c (nI j) false pk) 355), .int (((oRow N c (nI j) false pk) 352) - (nI 0)), .int ((oRow N c (nI j) false pk) 353), .int ((oRow N c (nI j) false pk) 354)])))) (fun z => by rw [z, hd3] at hso4; cases hso4)).trans hso4
                    have hC5 := hC0.kp hD4.1
                    obtain ⟨hd5, ⟨gq5, hg5, hgq5⟩, hgd5, hS5, hSh5, hP5, hPk5, hK85, hP65, hsp5, hse5⟩ := id hM5
                    obtain ⟨mcS5, hsl5⟩ := hS5.o
                    obtain ⟨mcP5, hpl5⟩ := hP5.o
                    obtain ⟨feS5, capS5, geS5, hseA5⟩ := hS5.el
                    obtain ⟨feP5, capP5, geP5, hpeA5⟩ := hP5.el
                    obtain ⟨hk05, hd05, hg05, hsl05, hpl05, hse05, hpe05⟩ := id hD4
                    refine r_aload_n E dX2_dig_155 rfl ?_
                    refine r_getf E cl_X2 1 (by decide) q187 hd5 rfl dX2_dig_156 ?_
                    refine r_iload_n E dX2_dig_159 rfl ?_
                    refine r_aload E dX2_dig_160 rfl ?_
                    refine r_iload E dX2_dig_162 rfl ?_
                    refine r_callV E (ct_X7_winning G hl _ (sf j) true (N (320 + j)) (N (336 + j)) false hso5 (N (128 + c))) mX7_winning q919 q920 q921 (fun H a1 => fm_rc (ci := 6) (C := RX7) (T := TX7) (N := 3) a1 rfl E.v hso5) rfl rfl (Nat.le_of_ble_eq_true rfl) (Nat.le_of_ble_eq_true rfl) (Nat.le_of_ble_eq_true rfl) dX2_dig_164 1 3 (Nat.le_of_ble_eq_true rfl) (Nat.le_of_ble_eq_true rfl) (fun v' h5 q => ?_) (fun _ _ _ q => q.elim)
                    obtain ⟨b5, hb5, kb5, rfl, rfl⟩ := q
                    have hM6 := hM5.kp (Kp.up (e := (true, .inr (.inl (6, [.int (N (320 + j)), .int (N (336 + j) + N (128 + c)), .int (bI false)])))) hb5)
                    have hD6 := hD4.kp (Kp.up (e := (true, .inr (.inl (6, [.int (N (320 + j)), .int (N (336 + j) + N (128 + c)), .int (bI false)])))) hb5)
                    have hC6 := hC0.kp hD6.1
                    have hso6 := fmUp_of (e := (true, .inr (.inl (6, [.int (N (320 + j)), .int (N (336 + j) + N (128 + c)), .int (bI false)])))) hso5 hb5
                    obtain ⟨hds, ⟨gqs, hgs, hgqs⟩, hgds, hSs, hShs, hPs, hPks, hK8s, hP6s, hsps, hses⟩ := id hM6
                    obtain ⟨mcSs, hsls⟩ := hSs.o
                    obtain ⟨mcPs, hpls⟩ := hPs.o
                    obtain ⟨feSs, capSs, geSs, hseAs⟩ := hSs.el
                    obtain ⟨fePs, capPs, gePs, hpeAs⟩ := hPs.el
                    obtain ⟨hk0s, hd0s, hg0s, hsl0s, hpl0s, hse0s, hpe0s⟩ := id hD6
                    refine r_callF E (ct_J2_set G hl _ sl se K sf hSs (by omega) j b5 hj ⟨6, RX7, TX7, 3, true, _, rfl, fmUp_s, q2326⟩) mJ2_set (ci := 12) rfl hsls 4 rfl q856 q861 q859 fx_4 rfl rfl (Nat.le_of_ble_eq_true rfl) (Nat.le_of_ble_eq_true rfl) (Nat.le_of_ble_eq_true rfl) dX2_dig_167 1 3 (Nat.le_of_ble_eq_true rfl) (Nat.le_of_ble_eq_true rfl) (fun v' h7 q => ?_) (fun _ _ _ q => q.elim)
                    obtain ⟨rfl, hA, hfr⟩ := q
                    have hfr2 : ∀ q x, (fmUp (fmUp h1 d (true, .inr (.inl (2, [.ref g, .ref sl, .ref pl, .int ((oRow N c (nI j) false pk) 355), .int (((oRow N c (nI j) false pk) 352) - (nI 0)), .int ((oRow N c (nI j) false pk) 353), .int ((oRow N c (nI j) false pk) 354)])))) b5 (true, .inr (.inl (6, [.int (N (320 + j)), .int (N (336 + j) + N (128 + c)), .int (bI false)])))) q = some x → q ≠ sl → (q ≠ se ∨ x.1 = false) → h7 q = some x := fun q x hq hql hqe => hqe.elim (hfr q x hq) (fun hb => by
                      by_cases z : q = se
                      · obtain ⟨y, hy⟩ := hSs.ft (by omega); rw [z, hy] at hq; cases hq; cases hb
                      · exact hfr q x hq z)
                    have hb7 := hfr _ _ fmUp_s (fun z => by rw [z, hseA5] at hb5; cases hb5)
                    have hso7 := hfr _ _ hso6 (fun z => by rw [z, hseAs] at hso6; cases hso6)
                    have hkk : ∀ {q : Nat} {b : Bool} {ci : Nat} {fs : List Value}, (fmUp (fmUp h1 d (true, .inr (.inl (2, [.ref g, .ref sl, .ref pl, .int ((oRow N c (nI j) false pk) 355), .int (((oRow N c (nI j) false pk) 352) - (nI 0)), .int ((oRow N c (nI j) false pk) 353), .int ((oRow N c (nI j) false pk) 354)])))) b5 (true, .inr (.inl (6, [.int (N (320 + j)), .int (N (336 + j) + N (128 + c)), .int (bI false)])))) q = some (b, .inr (.inl (ci, fs))) → h7 q = some (b, .inr (.inl (ci, fs))) := fun {q b ci fs} hq => hfr _ _ hq (fun z => by rw [z, hseAs] at hq; cases hq)
                    have er : ∀ q, 320 ≤ q → q < 344 → (oRow N c (nI j) false pk) q = N q := fun q g1 g2 => by rw [oRow_o (by omega) (by omega) (by omega) (by omega), oW_lo hP6 hx (by omega) (by omega)]
                    have hM7 := hM6.setS (N' := sDigRow N j c pk false) hC6 hA hfr2 hses hK8 (fun k hk => by
                        by_cases hkK : k = j
                        · subst hkK; rw [updN_s]; exact ⟨false, by rw [dig_x hc (by omega) hP6 hx (by omega) (by omega), er _ (by omega) (by omega)]; exact hcl, by rw [dig_w hc (by omega) hP6 hx, dig_x hc (by omega) hP6 hx (by omega) (by omega), er _ (by omega) (by omega)]; exact hb7⟩
                        · rw [updN_n hkK]; obtain ⟨cl2, f1, f2⟩ := hSh k hk
                          obtain ⟨cl3, f3, f4⟩ := hShs k hk
                          have f5 : (oRow N c (nI j) false pk) (328 + k) = bI cl3 := (upd_ne' (by omega)).symm.trans f3
                          rw [upd_ne' (by omega), upd_ne' (by omega)] at f4
                          exact ⟨cl3, by rw [dig_x hc (by omega) hP6 hx (by omega) (by omega)]; exact f5, by rw [dig_x hc (by omega) hP6 hx (by omega) (by omega), dig_x hc (by omega) hP6 hx (by omega) (by omega)]; exact hkk f4⟩) (fun q hq => by
                        by_cases h352 : q = 352
                        · rw [h352, upd_eq' rfl, dig_p hc (by omega) hP6 hx, e352]
                        · rw [upd_ne' h352]; exact dig_x hc (by omega) hP6 hx (by omega) h352)
                    refine r_castS E cl_X7 q491 hso7 dX2_dig_172 ?_
                    refine r_astore E [some (.ref d), some (.int (nI j)), some (.int (nI c)), some (.int (bI false)), some (.ref (sf j)), some (.int (nI c)), some (.ref (gf c)), some (.int (N (128 + c))), some (.ref (sf j))] dX2_dig_175 rfl rfl ?_
                    refine r_iload E dX2_dig_177 rfl ?_
                    exact r_ireturn E P rfl dX2_dig_179 (by rw [hr]; exact ⟨rfl, by show some (Value.int _) = some (Value.int ((sDigRow N j c pk false) (128 + c))); rw [dig_n hc (by omega) hP6 hx], se, pe1, gf1, _, pf1, K, oPk N c pk, hM7, ⟨Dr.list hC0 hk0s hsl0s hse0s hfr2, hd0s, hg0s, hsl0s, hpl0s, hse0s, hpe0s⟩, (by show (sDigRow N j c pk false) 350 = _; rw [dig_x hc (by omega) hP6 hx (by omega) (by omega), oRow_o (by omega) (by omega) (by omega) (by omega), oW_350 hP6 hx]; exact hR.1), (by show (sDigRow N j c pk false) 351 = _; rw [dig_x hc (by omega) hP6 hx (by omega) (by omega), oRow_o (by omega) (by omega) (by omega) (by omega), oW_351 hP6 hx hR.2.2.1])⟩)
              | true =>
                refine r_iload_n E dX2_dig_66 rfl ?_
                refine r_ifB_eq (b := true) (tgt := 77) E dX2_dig_67 (by decide) (fun c => absurd c (by decide)) (fun _ => ?_)
                refine r_aload_n E dX2_dig_70 rfl ?_
                refine r_getf E cl_X2 4 (by decide) q193 hd2 rfl dX2_dig_71 ?_
                refine r_top (v' := .int (nI pr)) (congrArg Value.int hpr) ?_
                refine r_ifN_le (tgt := 81) E dX2_dig_74 (by decide) (by omega) (fun c9 => ?_) (fun c9 => ?_)
                · have q5 : (true && decide (N 352 = nI 0)) = true := by rw [hpr, c9, decide_eq_true rfl]; rfl
                  refine r_iconst E (nI 0) dX2_dig_81 (by decide) ?_
                  refine r_bipush E (nI 7) dX2_dig_82 (by decide) ?_
                  refine r_iconst E (nI 0) dX2_dig_84 (by decide) ?_
                  have hr : aDig N (nI j) (nI c) true K pk = aRef (nI 7) (nI 0) := by unfold aDig; rw [aG_f hg1, hcn, hjn, aGO_s (show sDigRef N j c true K pk = some (nI 7, nI 0) by unfold sDigRef; rw [sChk_f (q1), sChk_f (q2), sChk_f (q3), sChk_f (q4), sChk_t (q5)])]
                  refine r_callSN E (ctF_X1_allow G hl _ (nI 7) (nI 0)) mX1_allow q78 q734 q735 rfl rfl (Nat.le_of_ble_eq_true rfl) (Nat.le_of_ble_eq_true rfl) (Nat.le_of_ble_eq_true rfl) dX2_dig_85 0 0 (Nat.le_of_ble_eq_true rfl) (Nat.le_of_ble_eq_true rfl) (fun _ _ q => q.elim) (fun q Ex h' hx => ?_)
                  exact r_xout E P (fun x hx => by cases hx) (dXp.ref hDb.1 hr hx)
                · have q5 : (true && decide (N 352 = nI 0)) = false := by rw [hpr, decide_eq_false (fun z => by have := nI_z (by omega) (z.trans nI_0); omega)]; rfl
                  have q6 : (!true && decide (N 355 < nI (sWide N c))) = false := rfl
                  refine r_iconst E (nI 1) dX2_dig_77 (by decide) ?_
                  refine r_goto (tgt := 82) E dX2_dig_78 (by decide) ?_
                  refine r_bipush E (nI 7) dX2_dig_82 (by decide) ?_
                  refine r_iconst E (nI 0) dX2_dig_84 (by decide) ?_
                  refine r_callSN0 E (ctT_X1_allow G hl (fmUp h b1 (true, .inl (0, 1, .inl (upd (fun _ => 0) 0 (nI c))))) (nI 7) (nI 0)) mX1_allow q78 q734 q735 rfl rfl (Nat.le_of_ble_eq_true rfl) (Nat.le_of_ble_eq_true rfl) (Nat.le_of_ble_eq_true rfl) dX2_dig_85 4 215 (Nat.le_of_ble_eq_true rfl) (Nat.le_of_ble_eq_true rfl) ?_
                  refine r_iload_n E dX2_dig_88 rfl ?_
                  refine r_ifB_ne (b := true) (tgt := 105) E dX2_dig_89 (by decide) (fun _ => ?_) (fun c => absurd c (by decide))
                  refine r_iconst E (nI 1) dX2_dig_105 (by decide) ?_
                  refine r_goto (tgt := 110) E dX2_dig_106 (by decide) ?_
                  refine r_iconst E (nI 4) dX2_dig_110 (by decide) ?_
                  refine r_aload_n E dX2_dig_111 rfl ?_
                  refine r_iload E dX2_dig_112 rfl ?_
                  refine r_callV1 (v1 := .int (nI (sWide N c))) E (ct_X2_widest G hl (fmUp h b1 (true, .inl (0, 1, .inl (upd (fun _ => 0) 0 (nI c))))) hCb hMb c (by omega)) mX2_widest q915 q916 q917 (fun H a1 => fm_rc (ci := 2) (C := RX2) (T := TX2) (N := 7) a1 rfl E.v hd2) rfl rfl (Nat.le_of_ble_eq_true rfl) (Nat.le_of_ble_eq_true rfl) (Nat.le_of_ble_eq_true rfl) dX2_dig_114 4 215 (Nat.le_of_ble_eq_true rfl) (Nat.le_of_ble_eq_true rfl) ?_
                  refine r_callSN0 E (ctT_X1_allow G hl (fmUp h b1 (true, .inl (0, 1, .inl (upd (fun _ => 0) 0 (nI c))))) (nI 4) (nI (sWide N c))) mX1_allow q78 q734 q735 rfl rfl (Nat.le_of_ble_eq_true rfl) (Nat.le_of_ble_eq_true rfl) (Nat.le_of_ble_eq_true rfl) dX2_dig_117 4 215 (Nat.le_of_ble_eq_true rfl) (Nat.le_of_ble_eq_true rfl) ?_
                  refine r_aload_n E dX2_dig_120 rfl ?_
                  refine r_iload E dX2_dig_121 rfl ?_
                  refine r_new E cl_X6 [.int 0, .int 0] q803 q804 q108 (by decide) 3 213 (Nat.le_of_ble_eq_true rfl) (Nat.le_of_ble_eq_true rfl) dX2_dig_123 (fun a11 ha11 ka11 => ?_)
                  refine r_dup E dX2_dig_126 rfl ?_
                  refine r_iload_n E dX2_dig_127 rfl ?_
                  refine r_iload_n E dX2_dig_128 rfl ?_
                  refine r_callI0 E (ct_X6_init G hl (fmUp (fmUp h b1 (true, .inl (0, 1, .inl (upd (fun _ => 0) 0 (nI c))))) a11 (true, .inr (.inl (4, [.int 0, .int 0])))) a11 (nI j) true fmUp_s) mX6_init rfl q805 q806 rfl rfl (Nat.le_of_ble_eq_true rfl) (Nat.le_of_ble_eq_true rfl) (Nat.le_of_ble_eq_true rfl) dX2_dig_129 3 213 (Nat.le_of_ble_eq_true rfl) (Nat.le_of_ble_eq_true rfl) ?_
                  refine r_hp (h' := fmUp (fmUp h b1 (true, .inl (0, 1, .inl (upd (fun _ => 0) 0 (nI c))))) a11 (true, .inr (.inl (4, [.int (nI j), .int (bI true)])))) (fmUp_uu _ _ _ _) ?_
                  have hMa := hMb.kp (Kp.up (e := (true, .inr (.inl (4, [.int (nI j), .int (bI true)])))) ha11)
                  have hDa := hDb.kp (Kp.up (e := (true, .inr (.inl (4, [.int (nI j), .int (bI true)])))) ha11)
                  have hso3 := fmUp_of (e := (true, .inr (.inl (4, [.int (nI j), .int (bI true)])))) hso2 ha11
                  cases hx : sPickK N (sStrokes N c) pk with
                  | none =>
                    have q7 : (sPickK N (sStrokes N c) pk).isNone = true := by rw [hx]; rfl
                    have hr : aDig N (nI j) (nI c) true K pk = aRef (nI 5) (sStrokes N c) := by unfold aDig; rw [aG_f hg1, hcn, hjn, aGO_s (show sDigRef N j c true K pk = some (nI 5, sStrokes N c) by unfold sDigRef; rw [sChk_f q1, sChk_f q2, sChk_f q3, sChk_f q4, sChk_f q5, sChk_f q6, sChk_t q7])]
                    refine r_callV E (ctF_X2_open G hl _ hC0 hMa hDa c a11 (nI j) true hc h0c fmUp_s hx) mX2_open q820 q822 qs9 (fun H a1 => fm_rc (ci := 2) (C := RX2) (T := TX2) (N := 7) a1 rfl E.v (fmUp_of hd2 ha11)) rfl rfl (Nat.le_of_ble_eq_true rfl) (Nat.le_of_ble_eq_true rfl) (Nat.le_of_ble_eq_true rfl) dX2_dig_132 0 0 (Nat.le_of_ble_eq_true rfl) (Nat.le_of_ble_eq_true rfl) (fun _ _ q => q.elim) (fun q Ex h' hx => ?_)
                    exact r_xout E P (fun x hx => by cases hx) (dXp.ref hDa.1 hr hx)
                  | some x =>
                    have q7 : (sPickK N (sStrokes N c) pk).isNone = false := by rw [hx]; rfl
                    have hr : aDig N (nI j) (nI c) true K pk = aDon (sDigRow N j c pk true (128 + c)) (sDigRow N j c pk true) := by unfold aDig; rw [aG_f hg1, hcn, hjn, aGO_n (show sDigRef N j c true K pk = none by unfold sDigRef; rw [sChk_f q1, sChk_f q2, sChk_f q3, sChk_f q4, sChk_f q5, sChk_f q6, sChk_f q7]; rfl)]
                    refine r_callV E (ctT_X2_open G hl _ hC0 hMa hDa c a11 (nI j) true hc h0c fmUp_s hR x hx) mX2_open q820 q822 qs9 (fun H a1 => fm_rc (ci := 2) (C := RX2) (T := TX2) (N := 7) a1 rfl E.v (fmUp_of hd2 ha11)) rfl rfl (Nat.le_of_ble_eq_true rfl) (Nat.le_of_ble_eq_true rfl) (Nat.le_of_ble_eq_true rfl) dX2_dig_132 3 213 (Nat.le_of_ble_eq_true rfl) (Nat.le_of_ble_eq_true rfl) (fun v' h1 q => ?_) (fun _ _ _ q => q.elim)
                    obtain ⟨rfl, pe1, gf1, pf1, hM1, hD1, ho1⟩ := q
                    have hC1 : CC G h1 := hC0.kp hD1.1
                    have hso4 := ho1 _ _ _ _ hso3 (by decide) (by decide)
                    obtain ⟨hd3, ⟨gq3, hg3, hgq3⟩, hgd3, hS3, hSh3, hP3, hPk3, hK83, hP63, hsp3, hse3⟩ := id hM1
                    obtain ⟨mcS3, hsl3⟩ := hS3.o
                    obtain ⟨mcP3, hpl3⟩ := hP3.o
                    obtain ⟨feS3, capS3, geS3, hseA3⟩ := hS3.el
                    obtain ⟨feP3, capP3, geP3, hpeA3⟩ := hP3.el
                    obtain ⟨hk03, hd03, hg03, hsl03, hpl03, hse03, hpe03⟩ := id hD1
                    have e352 : (oRow N c (nI j) true pk) 352 = N 352 := by rw [oRow_o (by omega) (by omega) (by omega) (by omega), oW_lo hP6 hx (by omega) (by omega)]
                    refine r_istore E [some (.ref d), some (.int (nI j)), some (.int (nI c)), some (.int (bI true)), some (.ref (sf j)), some (.int (nI c)), some (.ref (gf c)), some (.int (N (128 + c))), none] dX2_dig_135 rfl rfl ?_
                    refine r_aload_n E dX2_dig_137 rfl ?_
                    refine r_dup E dX2_dig_138 rfl ?_
                    refine r_getf E cl_X2 4 (by decide) q193 hd3 rfl dX2_dig_139 ?_
                    refine r_iload_n E dX2_dig_142 rfl ?_
                    refine r_ifB_eq (b := true) (tgt := 150) E dX2_dig_143 (by decide) (fun c => absurd c (by decide)) (fun _ => ?_)
                    refine r_iconst E (nI 1) dX2_dig_146 (by decide) ?_
                    refine r_goto (tgt := 151) E dX2_dig_147 (by decide) ?_
                    refine r_isub E dX2_dig_151 ?_
                    refine r_putf E cl_X2 4 (by decide) rfl q193 (fun _ z => z) hd3 (Nat.le_of_ble_eq_true rfl) rfl rfl dX2_dig_152 ?_
                    refine r_hp (h' := fmUp h1 d (true, .inr (.inl (2, [.ref g, .ref sl, .ref pl, .int ((oRow N c (nI j) true pk) 355), .int (((oRow N c (nI j) true pk) 352) - (nI 1)), .int ((oRow N c (nI j) true pk) 353), .int ((oRow N c (nI j) true pk) 354)])))) (rfl) ?_
                    have hM4 := hM1.setd (N' := upd (oRow N c (nI j) true pk) 352 ((oRow N c (nI j) true pk) 352 - bI true)) (fun q hq => upd_ne' (by omega))
                    have hD4 : Dr G h0 (fmUp h1 d (true, .inr (.inl (2, [.ref g, .ref sl, .ref pl, .int ((oRow N c (nI j) true pk) 355), .int (((oRow N c (nI j) true pk) 352) - (nI 1)), .int ((oRow N c (nI j) true pk) 353), .int ((oRow N c (nI j) true pk) 354)])))) d g sl se pl pe1 := ⟨hk03.up0 hd03, hd03, hg03, hsl03, hpl03, hse03, hpe03⟩
                    have hM5 : MineAt G (fmUp h1 d (true, .inr (.inl (2, [.ref g, .ref sl, .ref pl, .int ((oRow N c (nI j) true pk) 355), .int (((oRow N c (nI j) true pk) 352) - (nI 1)), .int ((oRow N c (nI j) true pk) 353), .int ((oRow N c (nI j) true pk) 354)])))) d g sl se pl pe1 gf1 sf pf1 (upd (oRow N c (nI j) true pk) 352 ((oRow N c (nI j) true pk) 352 - bI true)) K (oPk N c pk) := hM4
                    have hso5 := (fmUp_n (e := (true, .inr (.inl (2, [.ref g, .ref sl, .ref pl, .int ((oRow N c (nI j) true pk) 355), .int (((oRow N c (nI j) true pk) 352) - (nI 1)), .int ((oRow N c (nI j) true pk) 353), .int ((oRow N c (nI j) true pk) 354)])))) (fun z => by rw [z, hd3] at hso4; cases hso4)).trans hso4
                    have hC5 := hC0.kp hD4.1
                    obtain ⟨hd5, ⟨gq5, hg5, hgq5⟩, hgd5, hS5, hSh5, hP5, hPk5, hK85, hP65, hsp5, hse5⟩ := id hM5
                    obtain ⟨mcS5, hsl5⟩ := hS5.o
                    obtain ⟨mcP5, hpl5⟩ := hP5.o
                    obtain ⟨feS5, capS5, geS5, hseA5⟩ := hS5.el
                    obtain ⟨feP5, capP5, geP5, hpeA5⟩ := hP5.el
                    obtain ⟨hk05, hd05, hg05, hsl05, hpl05, hse05, hpe05⟩ := id hD4
                    refine r_aload_n E dX2_dig_155 rfl ?_
                    refine r_getf E cl_X2 1 (by decide) q187 hd5 rfl dX2_dig_156 ?_
                    refine r_iload_n E dX2_dig_159 rfl ?_
                    refine r_aload E dX2_dig_160 rfl ?_
                    refine r_iload E dX2_dig_162 rfl ?_
                    refine r_callV E (ct_X7_winning G hl _ (sf j) true (N (320 + j)) (N (336 + j)) false hso5 (N (128 + c))) mX7_winning q919 q920 q921 (fun H a1 => fm_rc (ci := 6) (C := RX7) (T := TX7) (N := 3) a1 rfl E.v hso5) rfl rfl (Nat.le_of_ble_eq_true rfl) (Nat.le_of_ble_eq_true rfl) (Nat.le_of_ble_eq_true rfl) dX2_dig_164 1 3 (Nat.le_of_ble_eq_true rfl) (Nat.le_of_ble_eq_true rfl) (fun v' h5 q => ?_) (fun _ _ _ q => q.elim)
                    obtain ⟨b5, hb5, kb5, rfl, rfl⟩ := q
                    have hM6 := hM5.kp (Kp.up (e := (true, .inr (.inl (6, [.int (N (320 + j)), .int (N (336 + j) + N (128 + c)), .int (bI false)])))) hb5)
                    have hD6 := hD4.kp (Kp.up (e := (true, .inr (.inl (6, [.int (N (320 + j)), .int (N (336 + j) + N (128 + c)), .int (bI false)])))) hb5)
                    have hC6 := hC0.kp hD6.1
                    have hso6 := fmUp_of (e := (true, .inr (.inl (6, [.int (N (320 + j)), .int (N (336 + j) + N (128 + c)), .int (bI false)])))) hso5 hb5
                    obtain ⟨hds, ⟨gqs, hgs, hgqs⟩, hgds, hSs, hShs, hPs, hPks, hK8s, hP6s, hsps, hses⟩ := id hM6
                    obtain ⟨mcSs, hsls⟩ := hSs.o
                    obtain ⟨mcPs, hpls⟩ := hPs.o
                    obtain ⟨feSs, capSs, geSs, hseAs⟩ := hSs.el
                    obtain ⟨fePs, capPs, gePs, hpeAs⟩ := hPs.el
                    obtain ⟨hk0s, hd0s, hg0s, hsl0s, hpl0s, hse0s, hpe0s⟩ := id hD6
                    refine r_callF E (ct_J2_set G hl _ sl se K sf hSs (by omega) j b5 hj ⟨6, RX7, TX7, 3, true, _, rfl, fmUp_s, q2326⟩) mJ2_set (ci := 12) rfl hsls 4 rfl q856 q861 q859 fx_4 rfl rfl (Nat.le_of_ble_eq_true rfl) (Nat.le_of_ble_eq_true rfl) (Nat.le_of_ble_eq_true rfl) dX2_dig_167 1 3 (Nat.le_of_ble_eq_true rfl) (Nat.le_of_ble_eq_true rfl) (fun v' h7 q => ?_) (fun _ _ _ q => q.elim)
                    obtain ⟨rfl, hA, hfr⟩ := q
                    have hfr2 : ∀ q x, (fmUp (fmUp h1 d (true, .inr (.inl (2, [.ref g, .ref sl, .ref pl, .int ((oRow N c (nI j) true pk) 355), .int (((oRow N c (nI j) true pk) 352) - (nI 1)), .int ((oRow N c (nI j) true pk) 353), .int ((oRow N c (nI j) true pk) 354)])))) b5 (true, .inr (.inl (6, [.int (N (320 + j)), .int (N (336 + j) + N (128 + c)), .int (bI false)])))) q = some x → q ≠ sl → (q ≠ se ∨ x.1 = false) → h7 q = some x := fun q x hq hql hqe => hqe.elim (hfr q x hq) (fun hb => by
                      by_cases z : q = se
                      · obtain ⟨y, hy⟩ := hSs.ft (by omega); rw [z, hy] at hq; cases hq; cases hb
                      · exact hfr q x hq z)
                    have hb7 := hfr _ _ fmUp_s (fun z => by rw [z, hseA5] at hb5; cases hb5)
                    have hso7 := hfr _ _ hso6 (fun z => by rw [z, hseAs] at hso6; cases hso6)
                    have hkk : ∀ {q : Nat} {b : Bool} {ci : Nat} {fs : List Value}, (fmUp (fmUp h1 d (true, .inr (.inl (2, [.ref g, .ref sl, .ref pl, .int ((oRow N c (nI j) true pk) 355), .int (((oRow N c (nI j) true pk) 352) - (nI 1)), .int ((oRow N c (nI j) true pk) 353), .int ((oRow N c (nI j) true pk) 354)])))) b5 (true, .inr (.inl (6, [.int (N (320 + j)), .int (N (336 + j) + N (128 + c)), .int (bI false)])))) q = some (b, .inr (.inl (ci, fs))) → h7 q = some (b, .inr (.inl (ci, fs))) := fun {q b ci fs} hq => hfr _ _ hq (fun z => by rw [z, hseAs] at hq; cases hq)
                    have er : ∀ q, 320 ≤ q → q < 344 → (oRow N c (nI j) true pk) q = N q := fun q g1 g2 => by rw [oRow_o (by omega) (by omega) (by omega) (by omega), oW_lo hP6 hx (by omega) (by omega)]
                    have hM7 := hM6.setS (N' := sDigRow N j c pk true) hC6 hA hfr2 hses hK8 (fun k hk => by
                        by_cases hkK : k = j
                        · subst hkK; rw [updN_s]; exact ⟨false, by rw [dig_x hc (by omega) hP6 hx (by omega) (by omega), er _ (by omega) (by omega)]; exact hcl, by rw [dig_w hc (by omega) hP6 hx, dig_x hc (by omega) hP6 hx (by omega) (by omega), er _ (by omega) (by omega)]; exact hb7⟩
                        · rw [updN_n hkK]; obtain ⟨cl2, f1, f2⟩ := hSh k hk
                          obtain ⟨cl3, f3, f4⟩ := hShs k hk
                          have f5 : (oRow N c (nI j) true pk) (328 + k) = bI cl3 := (upd_ne' (by omega)).symm.trans f3
                          rw [upd_ne' (by omega), upd_ne' (by omega)] at f4
                          exact ⟨cl3, by rw [dig_x hc (by omega) hP6 hx (by omega) (by omega)]; exact f5, by rw [dig_x hc (by omega) hP6 hx (by omega) (by omega), dig_x hc (by omega) hP6 hx (by omega) (by omega)]; exact hkk f4⟩) (fun q hq => by
                        by_cases h352 : q = 352
                        · rw [h352, upd_eq' rfl, dig_p hc (by omega) hP6 hx, e352]
                        · rw [upd_ne' h352]; exact dig_x hc (by omega) hP6 hx (by omega) h352)
                    refine r_castS E cl_X7 q491 hso7 dX2_dig_172 ?_
                    refine r_astore E [some (.ref d), some (.int (nI j)), some (.int (nI c)), some (.int (bI true)), some (.ref (sf j)), some (.int (nI c)), some (.ref (gf c)), some (.int (N (128 + c))), some (.ref (sf j))] dX2_dig_175 rfl rfl ?_
                    refine r_iload E dX2_dig_177 rfl ?_
                    exact r_ireturn E P rfl dX2_dig_179 (by rw [hr]; exact ⟨rfl, by show some (Value.int _) = some (Value.int ((sDigRow N j c pk true) (128 + c))); rw [dig_n hc (by omega) hP6 hx], se, pe1, gf1, _, pf1, K, oPk N c pk, hM7, ⟨Dr.list hC0 hk0s hsl0s hse0s hfr2, hd0s, hg0s, hsl0s, hpl0s, hse0s, hpe0s⟩, (by show (sDigRow N j c pk true) 350 = _; rw [dig_x hc (by omega) hP6 hx (by omega) (by omega), oRow_o (by omega) (by omega) (by omega) (by omega), oW_350 hP6 hx]; exact hR.1), (by show (sDigRow N j c pk true) 351 = _; rw [dig_x hc (by omega) hP6 hx (by omega) (by omega), oRow_o (by omega) (by omega) (by omega) (by omega), oW_351 hP6 hx hR.2.2.1])⟩)
            | some x =>
              have q4 : (sMeet N c (nI j) K).isSome = true := by rw [hm]; rfl
              have hr : aDig N (nI j) (nI c) p K pk = aRef (nI 3) (nI x) := by unfold aDig; rw [aG_f hg1, hcn, hjn, aGO_s (show sDigRef N j c p K pk = some (nI 3, nI x) by unfold sDigRef; rw [sChk_f (q1), sChk_f (q2), sChk_f (q3), sChk_t (q4)]; rw [hm]; rfl)]
              refine r_callV E (ctF_X2_allowMeeting G hl _ hCb hMb c (nI j) hc x hm) mX2_allowMeeting q787 q789 qs8 (fun H a1 => fm_rc (ci := 2) (C := RX2) (T := TX2) (N := 7) a1 rfl E.v hd2) rfl rfl (Nat.le_of_ble_eq_true rfl) (Nat.le_of_ble_eq_true rfl) (Nat.le_of_ble_eq_true rfl) dX2_dig_63 0 0 (Nat.le_of_ble_eq_true rfl) (Nat.le_of_ble_eq_true rfl) (fun _ _ q => q.elim) (fun q Ex h' hx => ?_)
              exact r_xout E P (fun x hx => by cases hx) (dXp.ref hDb.1 hr hx)
        · have q2 : (!sChalk N c) = true := by unfold sChalk; rw [decide_eq_false h0c]; rfl
          have hr : aDig N (nI j) (nI c) p K pk = aRef (nI 1) (nI c) := by unfold aDig; rw [aG_f hg1, hcn, hjn, aGO_s (show sDigRef N j c p K pk = some (nI 1, nI c) by unfold sDigRef; rw [sChk_f (q1), sChk_t (q2)])]
          refine r_callV E (ctF_X2_chalk G hl _ hCb hMb c hc h0c) mX2_chalk q688 q690 qs7 (fun H a1 => fm_rc (ci := 2) (C := RX2) (T := TX2) (N := 7) a1 rfl E.v hd2) rfl rfl (Nat.le_of_ble_eq_true rfl) (Nat.le_of_ble_eq_true rfl) (Nat.le_of_ble_eq_true rfl) dX2_dig_41 0 0 (Nat.le_of_ble_eq_true rfl) (Nat.le_of_ble_eq_true rfl) (fun _ _ q => q.elim) (fun q Ex h' hx => ?_)
          exact r_xout E P (fun x hx => by cases hx) (dXp.ref hDb.1 hr hx)

